section
-- rows of kit/rows (starting texts), as they stand there
theorem pk_us {f : Nat → Int32} {k : Nat} {x : Int32} : upd f k x k = x := if_pos rfl
theorem pk_un {f : Nat → Int32} {k j : Nat} {x : Int32} (h : j ≠ k) : upd f k x j = f j := if_neg h
theorem pk_sub {a b : Nat} (h : b ≤ a) : nI a - nI b = nI (a - b) := by
  obtain ⟨c, rfl⟩ : ∃ c, a = c + b := ⟨a - b, by omega⟩
  rw [← nI_add, Int32.add_sub_cancel, Nat.add_sub_cancel]
theorem pk_mul (a b : Nat) : nI a * nI b = nI (a * b) := (Int32.ofNat_mul a b).symm
theorem pk_ix (x : Int32) {n : Nat} (hn : n < 2 ^ 31) : x < 0 ∨ nI n ≤ x ∨ ∃ j : Nat, j < n ∧ x = nI j := by
  by_cases h : x < 0
  · exact Or.inl h
  · obtain ⟨j, hj, rfl⟩ := nI_of h
    by_cases h2 : j < n
    · exact Or.inr (Or.inr ⟨j, h2, rfl⟩)
    · exact Or.inr (Or.inl (nI_le (by omega) hj))
theorem pk_tn {n : Nat} (h : n < 2 ^ 32) : (nI n).toBitVec.toNat = n := Nat.mod_eq_of_lt h
theorem pk_and (x : Int32) {m : Int32} (k : Nat) (hm : m.toBitVec.toNat = 2 ^ k - 1) : x &&& m = nI (x.toBitVec.toNat % 2 ^ k) := by
  apply Int32.toBitVec_inj.mp
  apply BitVec.eq_of_toNat_eq
  rw [Int32.toBitVec_and, BitVec.toNat_and, hm, Nat.and_two_pow_sub_one_eq_mod]
  show _ = (BitVec.ofNat 32 _).toNat
  rw [BitVec.toNat_ofNat]
  exact (Nat.mod_eq_of_lt (Nat.lt_of_le_of_lt (Nat.mod_le _ _) x.toBitVec.isLt)).symm
theorem pk_andN {n : Nat} (h : n < 2 ^ 32) {m : Int32} (k : Nat) (hm : m.toBitVec.toNat = 2 ^ k - 1) : nI n &&& m = nI (n % 2 ^ k) := by
  rw [pk_and _ k hm, pk_tn h]
theorem pk_andE (x : Int32) {m : Int32} (k : Nat) (hm : m.toBitVec.toNat = 2 ^ k - 1) : ∃ j : Nat, j < 2 ^ k ∧ x &&& m = nI j := ⟨_, Nat.mod_lt _ (Nat.two_pow_pos k), pk_and x k hm⟩
theorem pk_andIn (x : Int32) {m : Int32} (k : Nat) (hm : m.toBitVec.toNat = 2 ^ k - 1) (hk : k ≤ 30) : vp_in (x &&& m) (2 ^ k) := by
  obtain ⟨j, hj, e⟩ := pk_andE x k hm
  rw [e]
  exact vp_in_nI hj (Nat.lt_of_le_of_lt (Nat.pow_le_pow_right (by decide) hk) (by decide))
def bt (x : Int32) (i : Nat) : Bool := x.toBitVec.getLsbD i
theorem b_ext {x y : Int32} (h : ∀ i, i < 32 → bt x i = bt y i) : x = y := Int32.toBitVec_inj.mp (BitVec.eq_of_getLsbD_eq (fun i hi => h i hi))
theorem b_or (x y : Int32) (i : Nat) : bt (x ||| y) i = (bt x i || bt y i) := by unfold bt; rw [Int32.toBitVec_or, BitVec.getLsbD_or]
theorem b_and (x y : Int32) (i : Nat) : bt (x &&& y) i = (bt x i && bt y i) := by unfold bt; rw [Int32.toBitVec_and, BitVec.getLsbD_and]
theorem b_big {x : Int32} {i : Nat} (h : 32 ≤ i) : bt x i = false := BitVec.getLsbD_of_ge _ _ h
theorem b_0 (i : Nat) : bt 0 i = false := BitVec.getLsbD_zero
theorem s_l : ∀ n, n < 32 → ((nI n &&& 31).toBitVec.smod 32).toNat = n := by decide +kernel
theorem s_u : ∀ n, n < 32 → (((nI n).toUInt32 &&& Int32.toUInt32 31).toBitVec % 32).toNat = n := by decide +kernel
theorem b_shl (n : Nat) (hn : n < 32) (x : Int32) {i : Nat} (hi : i < 32) : bt (x <<< (nI n &&& 31)) i = (decide (n ≤ i) && bt x (i - n)) := by
  unfold bt
  rw [Int32.toBitVec_shiftLeft]
  show (x.toBitVec <<< ((nI n &&& 31).toBitVec.smod 32).toNat).getLsbD i = _
  rw [s_l n hn, BitVec.getLsbD_shiftLeft]
  rcases Nat.lt_or_ge i n with h | h
  · simp [h, Nat.not_le.mpr h]
  · simp [hi, h, Nat.not_lt.mpr h]
theorem b_ushr (n : Nat) (hn : n < 32) (x : Int32) (i : Nat) : bt ((x.toUInt32 >>> ((nI n).toUInt32 &&& Int32.toUInt32 31)).toInt32) i = bt x (n + i) := by
  show (x.toUInt32 >>> ((nI n).toUInt32 &&& Int32.toUInt32 31)).toBitVec.getLsbD i = x.toUInt32.toBitVec.getLsbD (n + i)
  rw [UInt32.toBitVec_shiftRight]
  show (x.toUInt32.toBitVec >>> (((nI n).toUInt32 &&& Int32.toUInt32 31).toBitVec % 32).toNat).getLsbD i = _
  rw [s_u n hn, BitVec.getLsbD_ushiftRight]
end
section
-- indices as naturals
theorem zq_5 (t : Nat) : nI t * 5 = nI (t * 5) := pk_mul t 5
theorem zq_4 (t : Nat) : nI t * 4 = nI (t * 4) := pk_mul t 4
theorem zq_16 (t : Nat) : nI t * 16 = nI (t * 16) := pk_mul t 16
theorem zq_51 (t : Nat) : nI t * 5 + 1 = nI (t * 5 + 1) := by rw [zq_5, nI_1]
theorem zq_4a (s r : Nat) : nI s * 4 + nI r = nI (s * 4 + r) := by rw [zq_4, nI_add]
theorem zq_16a (s r : Nat) : nI s * 16 + nI r = nI (s * 16 + r) := by rw [zq_16, nI_add]
theorem zq_5116 (t r : Nat) : (nI t * 5 + 1) * 16 + nI r = nI ((t * 5 + 1) * 16 + r) := by rw [zq_51, zq_16a]
theorem zq_top {t d : Nat} {y : Int32} (h : y = nI d) : nI t * 5 + 1 + y = nI (t * 5 + 1 + d) := by rw [h, zq_51, nI_add]
theorem zq_topY {t d : Nat} {y : Int32} (h : y = nI d) : nI t * 5 + y + 1 = nI (t * 5 + 1 + d) := by
  rw [h, zq_5, nI_add, nI_1]
  exact congrArg nI (by omega)
theorem zq_cl {n : Nat} (h : n < 2 ^ 31) : (nI n).toNatClampNeg = n := nI_clamp h
-- reads and stores
theorem zq_rd {x : Int32} {a : Nat → Int32} (n : Nat) {v : Int32} (hx : x = nI n) (hv : a n = v) (hn : n < 2 ^ 31 := by omega) : a x.toNatClampNeg = v := by rw [hx, nI_clamp hn, hv]
theorem zq_in {x : Int32} {M : Nat} {Q : Prop} (n : Nat) (hx : x = nI n) (h : Q) (hn : n < M := by omega) (hM : M < 2 ^ 31 := by omega) : vp_in x M ∧ Q := by
  subst hx
  exact ⟨vp_in_nI hn hM, h⟩
theorem zq_st {x : Int32} {a : Nat → Int32} {v : Int32} {M : Nat} {P : (Nat → Int32) → Prop} (n : Nat) (v' : Int32) (hx : x = nI n) (hv : v = v') (h : P (upd a n v')) (hn : n < M := by omega) (hM : M < 2 ^ 31 := by omega) : vp_in x M ∧ ∀ y : Nat → Int32, y = upd a x.toNatClampNeg v → P y := by
  subst hx
  subst hv
  refine ⟨vp_in_nI hn hM, fun y e => ?_⟩
  rw [e, nI_clamp (by omega)]
  exact h
theorem zq_nm {x : Int32} {a : Nat → Int32} {P : Int32 → Prop} (n : Nat) (v : Int32) (hx : x = nI n) (hv : a n = v) (h : P v) (hn : n < 2 ^ 31 := by omega) : ∀ y : Int32, y = a x.toNatClampNeg → P y := by
  intro y e
  rw [e, zq_rd n hx hv hn]
  exact h
-- bits
def zq_bz (b : Bool) : Int32 := cond b 1 0
theorem zq_bz0 {b : Bool} : zq_bz b = 0 ↔ b = false := by cases b <;> decide
theorem zq_bzn {b : Bool} : ¬ zq_bz b = 0 ↔ b = true := by cases b <;> decide
theorem zq_bz01 (b : Bool) : zq_bz b = 0 ∨ zq_bz b = 1 := by cases b <;> decide
theorem zq_nb {x : Int32} (h : x = 0 ∨ x = 1) : vp_nar .boolean x = x := by rcases h with rfl | rfl <;> rfl
theorem zq_n0 : vp_nar .boolean 0 = 0 := rfl
theorem zq_n1 : vp_nar .boolean 1 = 1 := rfl
theorem zq_nn {x : Int32} (h : x = 0 ∨ x = 1) : narrow .boolean (.int x) = .int x := by rcases h with rfl | rfl <;> rfl
theorem zq_b1 (i : Nat) : bt 1 i = decide (i = 0) := by
  rcases Nat.lt_or_ge i 32 with h | h
  · exact (by decide +kernel : ∀ i, i < 32 → bt 1 i = decide (i = 0)) i h
  · rw [b_big h, decide_eq_false (by omega)]
theorem zq_hb (m : Int32) {x : Nat} (hx : x < 32) : ((m.toUInt32 >>> ((nI x).toUInt32 &&& Int32.toUInt32 31)).toInt32 &&& 1) = 0 ↔ bt m x = false := by
  constructor
  · intro h
    have e := congrArg (fun z => bt z 0) h
    rw [b_and, b_ushr x hx, zq_b1, b_0, Nat.add_zero] at e
    simpa using e
  · intro h
    apply b_ext
    intro i hi
    rw [b_and, b_ushr x hx, zq_b1, b_0]
    by_cases e : i = 0
    · subst e
      rw [Nat.add_zero, h]
      rfl
    · rw [decide_eq_false e, Bool.and_false]
theorem zq_sh {x : Nat} (hx : x < 32) (y : Nat) : bt ((1 : Int32) <<< (nI x &&& 31)) y = decide (y = x) := by
  rcases Nat.lt_or_ge y 32 with h | h
  · rw [b_shl x hx _ h, zq_b1]
    by_cases e : y = x
    · subst e
      simp
    · rw [decide_eq_false e]
      by_cases g : x ≤ y
      · rw [decide_eq_false (show ¬ y - x = 0 by omega), Bool.and_false]
      · rw [decide_eq_false g, Bool.false_and]
  · rw [b_big h, decide_eq_false (by omega)]
theorem zq_and0 (a b : Int32) : (a &&& b) = 0 ↔ ∀ y, y < 32 → (bt a y && bt b y) = false := by
  constructor
  · intro h y _
    rw [← b_and, h, b_0]
  · intro h
    apply b_ext
    intro i hi
    rw [b_and, h i hi, b_0]
theorem zq_z0 (a : Int32) : a = 0 ↔ ∀ y, y < 32 → bt a y = false := by
  constructor
  · intro h y _
    rw [h, b_0]
  · intro h
    apply b_ext
    intro i hi
    rw [h i hi, b_0]
-- copies and fills
def zq_cp (w : Nat) (a : Nat → Int32) (f t r : Nat) : Nat → Int32 := fun j => if t * w ≤ j ∧ j < t * w + r then a (f * w + (j - t * w)) else a j
theorem zq_cp0 (w : Nat) (a : Nat → Int32) (f t : Nat) : zq_cp w a f t 0 = a := funext fun j => if_neg (by omega)
theorem zq_cpI (w : Nat) (a : Nat → Int32) (f r : Nat) : zq_cp w a f f r = a := by
  funext j
  unfold zq_cp
  by_cases h : f * w ≤ j ∧ j < f * w + r
  · rw [if_pos h]
    exact congrArg a (by omega)
  · rw [if_neg h]
theorem zq_cp4e (a : Nat → Int32) (f t : Nat) {i : Nat} (hi : i < 4) : zq_cp 4 a f t i (f * 4 + i) = a (f * 4 + i) := by
  unfold zq_cp
  exact if_neg (by omega)
theorem zq_cp16e (a : Nat → Int32) (f t : Nat) {i : Nat} (hi : i < 16) : zq_cp 16 a f t i (f * 16 + i) = a (f * 16 + i) := by
  unfold zq_cp
  exact if_neg (by omega)
theorem zq_cps (w : Nat) (a : Nat → Int32) (f t i : Nat) (e : zq_cp w a f t i (f * w + i) = a (f * w + i)) : upd (zq_cp w a f t i) (t * w + i) (zq_cp w a f t i (f * w + i)) = zq_cp w a f t (i + 1) := by
  rw [e]
  funext j
  unfold upd zq_cp
  by_cases h : j = t * w + i
  · rw [if_pos h, if_pos ⟨by omega, by omega⟩]
    exact congrArg a (by omega)
  · rw [if_neg h]
    by_cases c : t * w ≤ j ∧ j < t * w + i
    · rw [if_pos c, if_pos ⟨c.1, by omega⟩]
    · rw [if_neg c, if_neg (by omega)]
theorem zq_cp4s (a : Nat → Int32) (f t : Nat) {i : Nat} (hi : i < 4) : upd (zq_cp 4 a f t i) (t * 4 + i) (zq_cp 4 a f t i (f * 4 + i)) = zq_cp 4 a f t (i + 1) := zq_cps 4 a f t i (zq_cp4e a f t hi)
theorem zq_cp16s (a : Nat → Int32) (f t : Nat) {i : Nat} (hi : i < 16) : upd (zq_cp 16 a f t i) (t * 16 + i) (zq_cp 16 a f t i (f * 16 + i)) = zq_cp 16 a f t (i + 1) := zq_cps 16 a f t i (zq_cp16e a f t hi)
-- a copied block read, by its slot
theorem zq_cpT (a : Nat → Int32) (f t : Nat) {x : Nat} (hx : x < 16) : zq_cp 16 a f t 16 (t * 16 + x) = a (f * 16 + x) := by
  unfold zq_cp
  rw [if_pos ⟨by omega, by omega⟩]
  exact congrArg a (by omega)
theorem zq_cpN (a : Nat → Int32) (f t : Nat) {s x : Nat} (hx : x < 16) (h : s ≠ t) : zq_cp 16 a f t 16 (s * 16 + x) = a (s * 16 + x) := by
  unfold zq_cp
  exact if_neg (by omega)
def zq_fl (a : Nat → Int32) (b r : Nat) : Nat → Int32 := fun j => if b ≤ j ∧ j < b + r then 0 else a j
theorem zq_fl0 (a : Nat → Int32) (b : Nat) : zq_fl a b 0 = a := funext fun j => if_neg (by omega)
theorem zq_fls (a : Nat → Int32) (b i : Nat) : upd (zq_fl a b i) (b + i) 0 = zq_fl a b (i + 1) := by
  funext j
  unfold upd zq_fl
  by_cases h : j = b + i
  · rw [if_pos h, if_pos ⟨by omega, by omega⟩]
  · rw [if_neg h]
    by_cases c : b ≤ j ∧ j < b + i
    · rw [if_pos c, if_pos ⟨c.1, by omega⟩]
    · rw [if_neg c, if_neg (by omega)]
theorem zq_flT (a : Nat → Int32) (t : Nat) {x : Nat} (hx : x < 16) : zq_fl a (t * 16) 16 (t * 16 + x) = 0 := by
  unfold zq_fl
  exact if_pos ⟨by omega, by omega⟩
theorem zq_flN (a : Nat → Int32) (t : Nat) {s x : Nat} (hx : x < 16) (h : s ≠ t) : zq_fl a (t * 16) 16 (s * 16 + x) = a (s * 16 + x) := by
  unfold zq_fl
  exact if_neg (by omega)
theorem zq_updI (a : Nat → Int32) (k : Nat) : upd a k (a k) = a := by
  funext j
  unfold upd
  by_cases h : j = k
  · rw [if_pos h, h]
  · rw [if_neg h]
theorem zq_upd2 (a : Nat → Int32) (k : Nat) (x y : Int32) : upd (upd a k x) k y = upd a k y := by
  funext j
  unfold upd
  by_cases h : j = k
  · rw [if_pos h, if_pos h]
  · rw [if_neg h, if_neg h, if_neg h]
theorem zq_updC (a : Nat → Int32) {k l : Nat} (x y : Int32) (h : k ≠ l) : upd (upd a k x) l y = upd (upd a l y) k x := by
  funext j
  unfold upd
  by_cases h1 : j = k
  · subst h1
    rw [if_neg h, if_pos rfl, if_pos rfl]
  · rw [if_neg h1, if_neg h1]
end
section
-- which fields an instruction's number k uses
def zq_ua (k : Nat) : Prop := k = 1 ∨ k = 2 ∨ k = 3 ∨ k = 4 ∨ k = 5 ∨ k = 7 ∨ k = 8 ∨ k = 9
def zq_ub (k : Nat) : Prop := k = 2 ∨ k = 3 ∨ k = 4 ∨ k = 5 ∨ k = 8 ∨ k = 9
def zq_uc (k : Nat) : Prop := k = 2 ∨ k = 3 ∨ k = 4 ∨ k = 5
def zq_uj (k : Nat) : Prop := k = 6 ∨ k = 7 ∨ k = 12 ∨ k = 13
def zq_lo (M : Nat) (x : Int32) : Prop := ∃ j, j < M ∧ x = nI j
def zq_fit (o a b c : Int32) : Prop := ∃ k, k ≤ 14 ∧ o = nI k ∧ (zq_ua k → zq_lo 4 a) ∧ (zq_ub k → zq_lo 4 b) ∧ (zq_uc k → zq_lo 4 c) ∧ (zq_uj k → zq_lo 64 c)
abbrev zq_B (T N D L K : Nat) : Prop := T ≤ 4 ∧ N ≤ 16 ∧ D ≤ 3 ∧ L ≤ 64 ∧ K ≤ 500
def zq_C (L : Nat) (co ca cb cc pg : Nat → Int32) : Prop := ∀ i, i < L → pg (i * 4) = co i ∧ pg (i * 4 + 1) = ca i ∧ pg (i * 4 + 2) = cb i ∧ pg (i * 4 + 3) = cc i ∧ zq_fit (co i) (ca i) (cb i) (cc i)
def zq_T1 (T D t : Nat) (s d q m r : Int32) : Prop := (T ≤ t → s = 0) ∧ (∃ j, j ≤ D ∧ d = nI j) ∧ (∃ j, j ≤ 100 ∧ q = nI j) ∧ (m = 0 ∨ m = 1) ∧ (¬ s = 2 → m = 0) ∧ (¬ s = 2 → ¬ s = 3 → d = 0 ∧ r = 0)
def zq_T (T D : Nat) (st dp sc rm mr : Nat → Int32) : Prop := ∀ t, t < 4 → zq_T1 T D t (st t) (dp t) (sc t) (mr t) (rm t)
def zq_Rd (rm rd : Nat → Int32) : Prop := ∀ t, t < 4 → ∀ x, x < 16 → rd (t * 16 + x) = zq_bz (bt (rm t) x)
def zq_P (pc : Nat → Int32) : Prop := ∀ s, s < 20 → ∃ p, p ≤ 64 ∧ pc s = nI p
def zq_S (N : Nat) (sw sv ph pv : Nat → Int32) : Prop := ∀ s, s < 20 → ∀ x, x < 16 → ph (s * 16 + x) = zq_bz (bt (sw s) x) ∧ (bt (sw s) x = true → x < N ∧ sv (s * 16 + x) = pv (s * 16 + x))
def zq_O (sw : Nat → Int32) : Prop := ∀ t, t < 4 → sw (t * 5) = 0
abbrev zq_RL (T N D L K : Nat) (co ca cb cc st dp sc rm mr pc sw sv pg rd ph pv : Nat → Int32) : Prop := zq_B T N D L K ∧ zq_C L co ca cb cc pg ∧ zq_T T D st dp sc rm mr ∧ zq_Rd rm rd ∧ zq_P pc ∧ zq_S N sw sv ph pv ∧ zq_O sw
section
variable {T N D L K : Nat} {co ca cb cc cv cr sg st dp sc rs rm mr pc sw rg sv pg rd ph pv wh wv : Nat → Int32}
-- threads
theorem zq_Tu (h : zq_T T D st dp sc rm mr) {t : Nat} {s d q r m : Int32} (h1 : t < 4 → zq_T1 T D t s d q m r) : zq_T T D (upd st t s) (upd dp t d) (upd sc t q) (upd rm t r) (upd mr t m) := by
  intro y hy
  by_cases e : y = t
  · subst e
    rw [pk_us, pk_us, pk_us, pk_us, pk_us]
    exact h1 hy
  · rw [pk_un e, pk_un e, pk_un e, pk_un e, pk_un e]
    exact h y hy
theorem zq_T_st (h : zq_T T D st dp sc rm mr) {t : Nat} {s : Int32} (h1 : t < 4 → zq_T1 T D t s (dp t) (sc t) (mr t) (rm t)) : zq_T T D (upd st t s) dp sc rm mr := by
  have e := zq_Tu h h1
  rw [zq_updI, zq_updI, zq_updI, zq_updI] at e
  exact e
theorem zq_T_dp (h : zq_T T D st dp sc rm mr) {t : Nat} {s : Int32} (h1 : t < 4 → zq_T1 T D t (st t) s (sc t) (mr t) (rm t)) : zq_T T D st (upd dp t s) sc rm mr := by
  have e := zq_Tu h h1
  rw [zq_updI, zq_updI, zq_updI, zq_updI] at e
  exact e
theorem zq_T_sc (h : zq_T T D st dp sc rm mr) {t : Nat} {s : Int32} (h1 : t < 4 → zq_T1 T D t (st t) (dp t) s (mr t) (rm t)) : zq_T T D st dp (upd sc t s) rm mr := by
  have e := zq_Tu h h1
  rw [zq_updI, zq_updI, zq_updI, zq_updI] at e
  exact e
theorem zq_T_rm (h : zq_T T D st dp sc rm mr) {t : Nat} {s : Int32} (h1 : t < 4 → zq_T1 T D t (st t) (dp t) (sc t) (mr t) s) : zq_T T D st dp sc (upd rm t s) mr := by
  have e := zq_Tu h h1
  rw [zq_updI, zq_updI, zq_updI, zq_updI] at e
  exact e
theorem zq_T_mk (h : zq_T T D st dp sc rm mr) {t : Nat} {s : Int32} (h1 : t < 4 → zq_T1 T D t (st t) (dp t) (sc t) s (rm t)) : zq_T T D st dp sc rm (upd mr t s) := by
  have e := zq_Tu h h1
  rw [zq_updI, zq_updI, zq_updI, zq_updI] at e
  exact e
-- a thread that is emptied
theorem zq_T_clean (h : zq_T T D st dp sc rm mr) {t : Nat} (ht : t < T) (s : Int32) : zq_T T D (upd st t s) (upd dp t 0) (upd sc t 0) (upd rm t 0) (upd mr t 0) :=
  zq_Tu h fun _ => ⟨fun z => by omega, ⟨0, by omega, rfl⟩, ⟨0, by omega, rfl⟩, Or.inl rfl, fun _ => rfl, fun _ _ => ⟨rfl, rfl⟩⟩
-- read sets
theorem zq_R_clean (h : zq_Rd rm rd) (t : Nat) : zq_Rd (upd rm t 0) (zq_fl rd (t * 16) 16) := by
  intro y hy x hx
  by_cases e : y = t
  · subst e
    rw [pk_us, zq_flT _ _ hx, b_0]
    rfl
  · rw [pk_un e, zq_flN _ _ hx e]
    exact h y hy x hx
theorem zq_R_add (h : zq_Rd rm rd) {t x : Nat} (hx : x < 16) : zq_Rd (upd rm t (rm t ||| ((1 : Int32) <<< (nI x &&& 31)))) (upd rd (t * 16 + x) 1) := by
  intro y hy z hz
  by_cases e : y = t
  · subst e
    rw [pk_us, b_or, zq_sh (by omega)]
    by_cases g : z = x
    · subst g
      rw [pk_us, decide_eq_true rfl, Bool.or_true]
      rfl
    · rw [pk_un (by omega), decide_eq_false g, Bool.or_false]
      exact h y hy z hz
  · rw [pk_un e, pk_un (by omega)]
    exact h y hy z hz
-- pcs
theorem zq_P_u (h : zq_P pc) (s : Nat) {v : Int32} (hv : ∃ p, p ≤ 64 ∧ v = nI p) : zq_P (upd pc s v) := by
  intro y hy
  by_cases e : y = s
  · subst e
    rw [pk_us]
    exact hv
  · rw [pk_un e]
    exact h y hy
-- pending writes
theorem zq_S01 (h : zq_S N sw sv ph pv) {s : Nat} (hs : s < 20) : ∀ x, x < 16 → ph (s * 16 + x) = 0 ∨ ph (s * 16 + x) = 1 := by
  intro x hx
  rw [(h s hs x hx).1]
  exact zq_bz01 _
theorem zq_S_clean (h : zq_S N sw sv ph pv) (f t : Nat) : zq_S N (upd sw t 0) sv (zq_fl (zq_cp 16 ph f t 16) (t * 16) 16) (zq_cp 16 pv f t 16) := by
  intro s hs x hx
  by_cases e : s = t
  · subst e
    rw [pk_us, zq_flT _ _ hx, b_0]
    exact ⟨rfl, fun z => nomatch z⟩
  · rw [pk_un e, zq_flN _ _ hx e, zq_cpN _ _ _ hx e, zq_cpN _ _ _ hx e]
    exact h s hs x hx
theorem zq_S_copy (h : zq_S N sw sv ph pv) {f : Nat} (hf : f < 20) (t : Nat) : zq_S N (upd sw t (sw f)) (zq_cp 16 sv f t 16) (zq_cp 16 ph f t 16) (zq_cp 16 pv f t 16) := by
  intro s hs x hx
  by_cases e : s = t
  · subst e
    rw [pk_us, zq_cpT _ _ _ hx, zq_cpT _ _ _ hx, zq_cpT _ _ _ hx]
    exact h f hf x hx
  · rw [pk_un e, zq_cpN _ _ _ hx e, zq_cpN _ _ _ hx e, zq_cpN _ _ _ hx e]
    exact h s hs x hx
theorem zq_S_copy0 (h : zq_S N sw sv ph pv) {f : Nat} (hf : f < 20) (t : Nat) (h0 : sw f = 0) (h1 : sw t = 0) : zq_S N sw sv (zq_cp 16 ph f t 16) (zq_cp 16 pv f t 16) := by
  intro s hs x hx
  by_cases e : s = t
  · subst e
    rw [zq_cpT _ _ _ hx, (h f hf x hx).1, h0, h1, b_0]
    exact ⟨rfl, fun z => nomatch z⟩
  · rw [zq_cpN _ _ _ hx e, zq_cpN _ _ _ hx e]
    exact h s hs x hx
theorem zq_S_add (h : zq_S N sw sv ph pv) {s x : Nat} (hx : x < 16) (hN : x < N) (v : Int32) : zq_S N (upd sw s (sw s ||| ((1 : Int32) <<< (nI x &&& 31)))) (upd sv (s * 16 + x) v) (upd ph (s * 16 + x) 1) (upd pv (s * 16 + x) v) := by
  intro y hy z hz
  by_cases e : y = s
  · subst e
    rw [pk_us, b_or, zq_sh (by omega)]
    by_cases g : z = x
    · subst g
      rw [pk_us, pk_us, pk_us, decide_eq_true rfl, Bool.or_true]
      exact ⟨rfl, fun _ => ⟨hN, rfl⟩⟩
    · rw [pk_un (by omega), pk_un (by omega), pk_un (by omega), decide_eq_false g, Bool.or_false]
      exact h y hy z hz
  · rw [pk_un e, pk_un (by omega), pk_un (by omega), pk_un (by omega)]
    exact h y hy z hz
theorem zq_O_u (h : zq_O sw) {s : Nat} (hs : ∀ t, t < 4 → t * 5 ≠ s) (v : Int32) : zq_O (upd sw s v) := by
  intro t ht
  rw [pk_un (hs t ht)]
  exact h t ht
-- the emptied thread, all at once
theorem zq_RL_clean (h : zq_RL T N D L K co ca cb cc st dp sc rm mr pc sw sv pg rd ph pv) {t : Nat} (ht : t < T) (f : Nat) (s : Int32) {pc' : Nat → Int32} (hp : zq_P pc') : zq_RL T N D L K co ca cb cc (upd st t s) (upd dp t 0) (upd sc t 0) (upd rm t 0) (upd mr t 0) pc' (upd sw (t*5+1) 0) sv pg (zq_fl rd (t*16) 16) (zq_fl (zq_cp 16 ph f (t*5+1) 16) ((t*5+1)*16) 16) (zq_cp 16 pv f (t*5+1) 16) := by
  obtain ⟨hB, hC, hT, hR, hP, hS, hO⟩ := h
  exact ⟨hB, hC, zq_T_clean hT ht s, zq_R_clean hR t, hp, zq_S_clean hS f (t*5+1), zq_O_u hO (fun y hy => by omega) 0⟩
end
-- the relation on whole states
def zq_rr (u : SX) (v : SY) : Prop :=
  match u with
  | (x1, x2, x3, x4, x5, co, ca, cb, cc, cv, cr, sg, st, dp, sc, rs, rm, mr, pc, sw, rg, sv) =>
    match v with
    | (y1, y2, y3, y4, y5, pg, cv', cr', st', dp', sc', rs', mr', rd, pc', rg', ph, pv, wh, wv) =>
      ∃ T N D L K : Nat, (x1 = nI T ∧ x2 = nI N ∧ x3 = nI D ∧ x4 = nI L ∧ x5 = nI K) ∧ (y1 = nI T ∧ y2 = nI N ∧ y3 = nI D ∧ y4 = nI L ∧ y5 = nI K) ∧ (cv' = cv ∧ cr' = cr ∧ st' = st ∧ dp' = dp ∧ sc' = sc) ∧ (rs' = rs ∧ mr' = mr ∧ pc' = pc ∧ rg' = rg) ∧ zq_RL T N D L K co ca cb cc st dp sc rm mr pc sw sv pg rd ph pv
-- what an instruction's outcome keeps besides: the code, and the block's step count
def zq_lt (b : Int32) (x : Int32) : Prop := b = 2 → ∃ q, q < 100 ∧ x = nI q
def zq_re (co0 : Nat → Int32) (t : Nat) (b : Int32) (u : SX) (v : SY) : Prop :=
  zq_rr u v ∧
  match u with
  | (x1, x2, x3, x4, x5, co, ca, cb, cc, cv, cr, sg, st, dp, sc, rs, rm, mr, pc, sw, rg, sv) => co = co0 ∧ zq_lt b (sc t)
section
variable {T N D L K : Nat} {co ca cb cc cv cr sg st dp sc rs rm mr pc sw rg sv pg rd ph pv wh wv : Nat → Int32}
theorem zq_rr_mk (h : zq_RL T N D L K co ca cb cc st dp sc rm mr pc sw sv pg rd ph pv) : zq_rr (nI T, nI N, nI D, nI L, nI K, co, ca, cb, cc, cv, cr, sg, st, dp, sc, rs, rm, mr, pc, sw, rg, sv) (nI T, nI N, nI D, nI L, nI K, pg, cv, cr, st, dp, sc, rs, mr, rd, pc, rg, ph, pv, wh, wv) := by
  refine Exists.intro T (Exists.intro N (Exists.intro D (Exists.intro L (Exists.intro K ?_))))
  exact ⟨⟨rfl, rfl, rfl, rfl, rfl⟩, ⟨rfl, rfl, rfl, rfl, rfl⟩, ⟨rfl, rfl, rfl, rfl, rfl⟩, ⟨rfl, rfl, rfl, rfl⟩, h⟩
theorem zq_re_mk {t : Nat} {b : Int32} (h : zq_RL T N D L K co ca cb cc st dp sc rm mr pc sw sv pg rd ph pv) (hq : zq_lt b (sc t)) : zq_re co t b (nI T, nI N, nI D, nI L, nI K, co, ca, cb, cc, cv, cr, sg, st, dp, sc, rs, rm, mr, pc, sw, rg, sv) (nI T, nI N, nI D, nI L, nI K, pg, cv, cr, st, dp, sc, rs, mr, rd, pc, rg, ph, pv, wh, wv) := And.intro (zq_rr_mk h) (And.intro rfl hq)
end
theorem zq_rr_el {P : SX → SY → Prop} (h : ∀ (T N D L K : Nat) (co ca cb cc cv cr sg st dp sc rs rm mr pc sw rg sv pg rd ph pv wh wv : Nat → Int32), zq_RL T N D L K co ca cb cc st dp sc rm mr pc sw sv pg rd ph pv → P (nI T, nI N, nI D, nI L, nI K, co, ca, cb, cc, cv, cr, sg, st, dp, sc, rs, rm, mr, pc, sw, rg, sv) (nI T, nI N, nI D, nI L, nI K, pg, cv, cr, st, dp, sc, rs, mr, rd, pc, rg, ph, pv, wh, wv)) {u : SX} {v : SY} (I : zq_rr u v) : P u v := by
  obtain ⟨x1, x2, x3, x4, x5, co, ca, cb, cc, cv, cr, sg, st, dp, sc, rs, rm, mr, pc, sw, rg, sv⟩ := u
  obtain ⟨y1, y2, y3, y4, y5, pg, cv', cr', st', dp', sc', rs', mr', rd, pc', rg', ph, pv, wh, wv⟩ := v
  obtain ⟨T, N, D, L, K, ⟨e1, e2, e3, e4, e5⟩, ⟨f1, f2, f3, f4, f5⟩, ⟨g1, g2, g3, g4, g5⟩, ⟨g6, g7, g8, g9⟩, hR⟩ := I
  subst e1 e2 e3 e4 e5 f1 f2 f3 f4 f5 g1 g2 g3 g4 g5 g6 g7 g8 g9
  exact h T N D L K co ca cb cc _ _ sg _ _ _ _ rm _ _ sw _ sv pg rd ph pv wh wv hR
theorem zq_re_el {co0 : Nat → Int32} {t : Nat} {b : Int32} {P : SX → SY → Prop} (h : ∀ (T N D L K : Nat) (co ca cb cc cv cr sg st dp sc rs rm mr pc sw rg sv pg rd ph pv wh wv : Nat → Int32), zq_RL T N D L K co ca cb cc st dp sc rm mr pc sw sv pg rd ph pv → co = co0 → zq_lt b (sc t) → P (nI T, nI N, nI D, nI L, nI K, co, ca, cb, cc, cv, cr, sg, st, dp, sc, rs, rm, mr, pc, sw, rg, sv) (nI T, nI N, nI D, nI L, nI K, pg, cv, cr, st, dp, sc, rs, mr, rd, pc, rg, ph, pv, wh, wv)) {u : SX} {v : SY} (I : zq_re co0 t b u v) : P u v :=
  zq_rr_el (P := fun u v => zq_re co0 t b u v → P u v) (fun T N D L K co ca cb cc cv cr sg st dp sc rs rm mr pc sw rg sv pg rd ph pv wh wv hR I => h T N D L K co ca cb cc cv cr sg st dp sc rs rm mr pc sw rg sv pg rd ph pv wh wv hR I.2.1 I.2.2) I.1 I
end
section
section
variable {T N D L K : Nat} {co ca cb cc cv cr sg st dp sc rs rm mr pc sw rg sv pg rd ph pv wh wv : Nat → Int32}
-- X: small checks
theorem zq_xth {post : Int32 → Prop} {t : Nat} (hT : T ≤ 4) (ht : t < T) (h : post 1) : wpX_isThread post (nI T, nI N, nI D, nI L, nI K, co, ca, cb, cc, cv, cr, sg, st, dp, sc, rs, rm, mr, pc, sw, rg, sv) (nI t) :=
  br_f (nI_pos (by omega)) (br_f (nI_ge ht (by omega)) h)
theorem zq_xthn {post : Int32 → Prop} {p : Int32} (hp : p < 0 ∨ nI T ≤ p) (h : post 0) : wpX_isThread post (nI T, nI N, nI D, nI L, nI K, co, ca, cb, cc, cv, cr, sg, st, dp, sc, rs, rm, mr, pc, sw, rg, sv) p := by
  by_cases h0 : p < 0
  · exact br_t h0 h
  · exact br_f h0 (br_t (hp.resolve_left h0) h)
theorem zq_xce {post : Int32 → Prop} {t : Nat} (hT : N ≤ 16) (ht : t < N) (h : post 1) : wpX_isCell post (nI T, nI N, nI D, nI L, nI K, co, ca, cb, cc, cv, cr, sg, st, dp, sc, rs, rm, mr, pc, sw, rg, sv) (nI t) :=
  br_f (nI_pos (by omega)) (br_f (nI_ge ht (by omega)) h)
theorem zq_xcen {post : Int32 → Prop} {p : Int32} (hp : p < 0 ∨ nI N ≤ p) (h : post 0) : wpX_isCell post (nI T, nI N, nI D, nI L, nI K, co, ca, cb, cc, cv, cr, sg, st, dp, sc, rs, rm, mr, pc, sw, rg, sv) p := by
  by_cases h0 : p < 0
  · exact br_t h0 h
  · exact br_f h0 (br_t (hp.resolve_left h0) h)
theorem zq_xhb {post : Int32 → Prop} {m : Int32} {x : Nat} (hx : x < 32) (h : post (zq_bz (bt m x))) : wpX_hasBit post (nI T, nI N, nI D, nI L, nI K, co, ca, cb, cc, cv, cr, sg, st, dp, sc, rs, rm, mr, pc, sw, rg, sv) m (nI x) := by
  cases e : bt m x
  · rw [e] at h
    exact br_t ((zq_hb m hx).mpr e) h
  · rw [e] at h
    exact br_f (fun z => by rw [(zq_hb m hx).mp z] at e; exact nomatch e) h
theorem zq_xib {post : Int32 → Prop} {t : Nat} (ht : t < 4) (h1 : st t = 2 ∨ st t = 3 → post 1) (h0 : ¬ st t = 2 → ¬ st t = 3 → post 0) : wpX_inBlock post (nI T, nI N, nI D, nI L, nI K, co, ca, cb, cc, cv, cr, sg, st, dp, sc, rs, rm, mr, pc, sw, rg, sv) (nI t) := by
  have e : st (nI t).toNatClampNeg = st t := zq_rd t rfl rfl
  refine zq_in t rfl ?_
  by_cases a : st t = 2
  · exact br_t (e.trans a) (h1 (Or.inl a))
  · refine br_f (fun z => a (e.symm.trans z)) (zq_in t rfl ?_)
    by_cases b : st t = 3
    · exact br_t (e.trans b) (h1 (Or.inr b))
    · exact br_f (fun z => b (e.symm.trans z)) (h0 a b)
theorem zq_xtop {post : Int32 → Prop} {t d : Nat} (ht : t < 4) (hd : dp t = nI d) (h : post (nI (t*5+1+d))) : wpX_topSlot post (nI T, nI N, nI D, nI L, nI K, co, ca, cb, cc, cv, cr, sg, st, dp, sc, rs, rm, mr, pc, sw, rg, sv) (nI t) := by
  refine zq_in t rfl ?_
  rw [zq_top (zq_rd t rfl hd)]
  exact h
theorem zq_3m {r : Nat} (hr : r < 4) : nI r &&& 3 = nI r := by
  rw [pk_andN (by omega) 2 (by decide)]
  exact congrArg nI (by omega)
theorem zq_3e (x : Int32) : ∃ j, j < 4 ∧ x &&& 3 = nI j := by
  obtain ⟨j, hj, e⟩ := pk_andE x (m := 3) 2 (by decide)
  exact ⟨j, by omega, e⟩
theorem zq_xget {post : Int32 → Prop} {s r : Nat} (hs : s < 20) (hr : r < 4) {y : Int32} (hy : y &&& 3 = nI r) (h : post (rg (s*4+r))) : wpX_getReg post (nI T, nI N, nI D, nI L, nI K, co, ca, cb, cc, cv, cr, sg, st, dp, sc, rs, rm, mr, pc, sw, rg, sv) (nI s) y := by
  have e : nI s * 4 + (y &&& 3) = nI (s*4+r) := by rw [hy, zq_4a]
  refine zq_in (s*4+r) e ?_
  rw [zq_rd (a := rg) (s*4+r) e rfl]
  exact h
theorem zq_xset {post : SX → Prop} {s r : Nat} (hs : s < 20) (hr : r < 4) {y v : Int32} (hy : y &&& 3 = nI r) (h : post (nI T, nI N, nI D, nI L, nI K, co, ca, cb, cc, cv, cr, sg, st, dp, sc, rs, rm, mr, pc, sw, upd rg (s*4+r) v, sv)) : wpX_setReg post (nI T, nI N, nI D, nI L, nI K, co, ca, cb, cc, cv, cr, sg, st, dp, sc, rs, rm, mr, pc, sw, rg, sv) (nI s) y v := by
  have e : nI s * 4 + (y &&& 3) = nI (s*4+r) := by rw [hy, zq_4a]
  exact zq_st (s*4+r) v e rfl h
-- X: dropBlock, copies
theorem zq_xdrop {post : SX → Prop} {t : Nat} (ht : t < 4) (h : post (nI T, nI N, nI D, nI L, nI K, co, ca, cb, cc, cv, cr, sg, st, upd dp t 0, upd sc t 0, rs, upd rm t 0, upd mr t 0, pc, upd sw (t*5+1) 0, rg, sv)) : wpX_dropBlock post (nI T, nI N, nI D, nI L, nI K, co, ca, cb, cc, cv, cr, sg, st, dp, sc, rs, rm, mr, pc, sw, rg, sv) (nI t) := by
  refine zq_st t 0 rfl rfl ?_
  refine zq_st t 0 rfl rfl ?_
  refine zq_st t 0 rfl rfl ?_
  refine zq_st t 0 rfl zq_n0 ?_
  exact zq_st (t*5+1) 0 (zq_51 t) rfl h
theorem zq_xcr_l {post : SX → Prop} {f t : Nat} (hf : f < 20) (ht : t < 20) (h : post (nI T, nI N, nI D, nI L, nI K, co, ca, cb, cc, cv, cr, sg, st, dp, sc, rs, rm, mr, pc, sw, zq_cp 4 rg f t 4, sv)) : ∀ d i : Nat, i + d = 4 → wX_copyRegs_2 post (nI f) (nI t) (nI T) (nI N) (nI D) (nI L) (nI K) (d + 1) (nI i) co ca cb cc cv cr sg st dp sc rs rm mr pc sw (zq_cp 4 rg f t i) sv := by
  intro d
  induction d with
  | zero =>
    intro i hi
    obtain rfl : i = 4 := by omega
    exact br_t (nI_le (a := 4) (b := 4) (by omega) (by omega)) h
  | succ d ih =>
    intro i hi
    refine br_f (nI_ge (b := 4) (by omega) (by omega)) ?_
    refine zq_in (f*4+i) (zq_4a f i) ?_
    refine zq_st (t*4+i) (zq_cp 4 rg f t i (f*4+i)) (zq_4a t i) (zq_rd (f*4+i) (zq_4a f i) rfl) ?_
    refine nm_r (nI_1 i) ?_
    rw [zq_cp4s _ _ _ (by omega)]
    exact ih (i+1) (by omega)
theorem zq_xcr {post : SX → Prop} {f t : Nat} (hf : f < 20) (ht : t < 20) (h : post (nI T, nI N, nI D, nI L, nI K, co, ca, cb, cc, cv, cr, sg, st, dp, sc, rs, rm, mr, pc, sw, zq_cp 4 rg f t 4, sv)) : wpX_copyRegs post (nI T, nI N, nI D, nI L, nI K, co, ca, cb, cc, cv, cr, sg, st, dp, sc, rs, rm, mr, pc, sw, rg, sv) (nI f) (nI t) := by
  have e := zq_xcr_l hf ht h 4 0 rfl
  rw [zq_cp0] at e
  exact ⟨5, e⟩
theorem zq_xcw_l {post : SX → Prop} {f t : Nat} (hf : f < 20) (ht : t < 20) (h : post (nI T, nI N, nI D, nI L, nI K, co, ca, cb, cc, cv, cr, sg, st, dp, sc, rs, rm, mr, pc, sw, rg, zq_cp 16 sv f t 16)) : ∀ d i : Nat, i + d = 16 → wX_copyWrites_14 post (nI f) (nI t) (nI T) (nI N) (nI D) (nI L) (nI K) (d + 1) (nI i) co ca cb cc cv cr sg st dp sc rs rm mr pc sw rg (zq_cp 16 sv f t i) := by
  intro d
  induction d with
  | zero =>
    intro i hi
    obtain rfl : i = 16 := by omega
    exact br_t (nI_le (a := 16) (b := 16) (by omega) (by omega)) h
  | succ d ih =>
    intro i hi
    refine br_f (nI_ge (b := 16) (by omega) (by omega)) ?_
    refine zq_in (f*16+i) (zq_16a f i) ?_
    refine zq_st (t*16+i) (zq_cp 16 sv f t i (f*16+i)) (zq_16a t i) (zq_rd (f*16+i) (zq_16a f i) rfl) ?_
    refine nm_r (nI_1 i) ?_
    rw [zq_cp16s _ _ _ (by omega)]
    exact ih (i+1) (by omega)
theorem zq_xcw {post : SX → Prop} {f t : Nat} (hf : f < 20) (ht : t < 20) (h : post (nI T, nI N, nI D, nI L, nI K, co, ca, cb, cc, cv, cr, sg, st, dp, sc, rs, rm, mr, pc, upd sw t (sw f), rg, zq_cp 16 sv f t 16)) : wpX_copyWrites post (nI T, nI N, nI D, nI L, nI K, co, ca, cb, cc, cv, cr, sg, st, dp, sc, rs, rm, mr, pc, sw, rg, sv) (nI f) (nI t) := by
  refine zq_in f rfl ?_
  refine zq_st t (sw f) rfl (zq_rd f rfl rfl) ?_
  have e := zq_xcw_l (sw := upd sw t (sw f)) hf ht h 16 0 rfl
  rw [zq_cp0] at e
  exact ⟨17, e⟩
end
-- a restart's count
def zq_inc (rs : Nat → Int32) (t : Nat) : Nat → Int32 := if 63 ≤ rs t then rs else upd rs t (rs t + 1)
section
variable {T N D L K : Nat} {co ca cb cc cv cr sg st dp sc rs rm mr pc sw rg sv pg rd ph pv wh wv : Nat → Int32}
theorem zq_xrestart {post : SX → Prop} {t : Nat} (ht : t < 4) (h : post (nI T, nI N, nI D, nI L, nI K, co, ca, cb, cc, cv, cr, sg, upd st t 2, upd dp t 0, upd sc t 0, zq_inc rs t, upd rm t 0, upd mr t 0, upd pc (t*5+1) (pc (t*5)), upd sw (t*5+1) 0, zq_cp 4 rg (t*5) (t*5+1) 4, sv)) : wpX_restart post (nI T, nI N, nI D, nI L, nI K, co, ca, cb, cc, cv, cr, sg, st, dp, sc, rs, rm, mr, pc, sw, rg, sv) (nI t) := by
  refine nm_r (zq_5 t) ?_
  refine nm_r (nI_1 (t*5)) ?_
  refine zq_xdrop ht ?_
  refine zq_xcr (f := t*5) (t := t*5+1) (by omega) (by omega) ?_
  refine zq_in (t*5) rfl ?_
  refine zq_st (t*5+1) (pc (t*5)) rfl (zq_rd (t*5) rfl rfl) ?_
  refine zq_st t 2 rfl rfl ?_
  refine zq_in t rfl ?_
  have e : rs (nI t).toNatClampNeg = rs t := zq_rd t rfl rfl
  by_cases c : 63 ≤ rs t
  · rw [zq_inc, if_pos c] at h
    exact br_t (by rw [e]; exact c) h
  · rw [zq_inc, if_neg c] at h
    exact br_f (by rw [e]; exact c) (zq_in t rfl (zq_st t (rs t + 1) rfl (by rw [e]) h))
theorem zq_xfail {post : Int32 → SX → Prop} {t d : Nat} {y : Int32} (ht : t < 4) (hd : dp t = nI d) (hd3 : d ≤ 3) (h : post 6 (nI T, nI N, nI D, nI L, nI K, co, ca, cb, cc, cv, cr, sg, upd st t y, upd dp t 0, upd sc t 0, rs, upd rm t 0, upd mr t 0, upd pc (t*5+1) (pc (t*5+1+d)), upd sw (t*5+1) 0, zq_cp 4 rg (t*5+1+d) (t*5+1) 4, sv)) : wpX_fail post (nI T, nI N, nI D, nI L, nI K, co, ca, cb, cc, cv, cr, sg, st, dp, sc, rs, rm, mr, pc, sw, rg, sv) (nI t) y := by
  unfold wpX_fail
  refine zq_xtop ht hd ?_
  refine nm_r (zq_51 t) ?_
  by_cases c : d = 0
  · subst c
    rw [Nat.add_zero, zq_updI, zq_cpI] at h
    refine br_t rfl ?_
    refine zq_xdrop ht ?_
    exact zq_st t y rfl rfl h
  · refine br_f (fun z => by rw [nI_eq (by omega) (by omega)] at z; omega) ?_
    refine zq_xcr (f := t*5+1+d) (t := t*5+1) (by omega) (by omega) ?_
    refine zq_in (t*5+1+d) rfl ?_
    refine zq_st (t*5+1) (pc (t*5+1+d)) rfl (zq_rd (t*5+1+d) rfl rfl) ?_
    refine zq_xdrop ht ?_
    exact zq_st t y rfl rfl h
end
end
section
section
variable {T N D L K : Nat} {co ca cb cc cv cr sg st dp sc rs rm mr pc sw rg sv pg rd ph pv wh wv : Nat → Int32}
-- Y: small checks
theorem zq_yth {post : Int32 → Prop} {t : Nat} (hT : T ≤ 4) (ht : t < T) (h : post 1) : wpY_isThread post (nI T, nI N, nI D, nI L, nI K, pg, cv, cr, st, dp, sc, rs, mr, rd, pc, rg, ph, pv, wh, wv) (nI t) :=
  br_f (nI_pos (by omega)) (br_f (nI_ge ht (by omega)) h)
theorem zq_ythn {post : Int32 → Prop} {p : Int32} (hp : p < 0 ∨ nI T ≤ p) (h : post 0) : wpY_isThread post (nI T, nI N, nI D, nI L, nI K, pg, cv, cr, st, dp, sc, rs, mr, rd, pc, rg, ph, pv, wh, wv) p := by
  by_cases h0 : p < 0
  · exact br_t h0 h
  · exact br_f h0 (br_t (hp.resolve_left h0) h)
theorem zq_yce {post : Int32 → Prop} {t : Nat} (hT : N ≤ 16) (ht : t < N) (h : post 1) : wpY_isCell post (nI T, nI N, nI D, nI L, nI K, pg, cv, cr, st, dp, sc, rs, mr, rd, pc, rg, ph, pv, wh, wv) (nI t) :=
  br_f (nI_pos (by omega)) (br_f (nI_ge ht (by omega)) h)
theorem zq_ycen {post : Int32 → Prop} {p : Int32} (hp : p < 0 ∨ nI N ≤ p) (h : post 0) : wpY_isCell post (nI T, nI N, nI D, nI L, nI K, pg, cv, cr, st, dp, sc, rs, mr, rd, pc, rg, ph, pv, wh, wv) p := by
  by_cases h0 : p < 0
  · exact br_t h0 h
  · exact br_f h0 (br_t (hp.resolve_left h0) h)
theorem zq_yib {post : Int32 → Prop} {t : Nat} (ht : t < 4) (h1 : st t = 2 ∨ st t = 3 → post 1) (h0 : ¬ st t = 2 → ¬ st t = 3 → post 0) : wpY_inBlock post (nI T, nI N, nI D, nI L, nI K, pg, cv, cr, st, dp, sc, rs, mr, rd, pc, rg, ph, pv, wh, wv) (nI t) := by
  have e : st (nI t).toNatClampNeg = st t := zq_rd t rfl rfl
  refine zq_in t rfl ?_
  by_cases a : st t = 2
  · exact br_t (e.trans a) (h1 (Or.inl a))
  · refine br_f (fun z => a (e.symm.trans z)) (zq_in t rfl ?_)
    by_cases b : st t = 3
    · exact br_t (e.trans b) (h1 (Or.inr b))
    · exact br_f (fun z => b (e.symm.trans z)) (h0 a b)
-- Y: copySlot
theorem zq_ycs2 {post : SY → Prop} {f t : Nat} (hf : f < 20) (ht : t < 20) (hb : ∀ x, x < 16 → ph (f*16+x) = 0 ∨ ph (f*16+x) = 1) (h : post (nI T, nI N, nI D, nI L, nI K, pg, cv, cr, st, dp, sc, rs, mr, rd, pc, rg, zq_cp 16 ph f t 16, zq_cp 16 pv f t 16, wh, wv)) : ∀ d i : Nat, i + d = 16 → wY_copySlot_47 post (nI f) (nI t) (nI T) (nI N) (nI D) (nI L) (nI K) (d + 1) (nI i) pg cv cr st dp sc rs mr rd pc rg (zq_cp 16 ph f t i) (zq_cp 16 pv f t i) wh wv := by
  intro d
  induction d with
  | zero =>
    intro i hi
    obtain rfl : i = 16 := by omega
    exact br_t (nI_le (a := 16) (b := 16) (by omega) (by omega)) h
  | succ d ih =>
    intro i hi
    refine br_f (nI_ge (b := 16) (by omega) (by omega)) ?_
    refine zq_in (f*16+i) (zq_16a f i) ?_
    refine zq_st (t*16+i) (zq_cp 16 ph f t i (f*16+i)) (zq_16a t i) ?_ ?_
    · rw [zq_rd (a := zq_cp 16 ph f t i) (f*16+i) (zq_16a f i) rfl]
      refine zq_nb ?_
      rw [zq_cp16e _ _ _ (by omega)]
      exact hb i (by omega)
    · refine zq_in (f*16+i) (zq_16a f i) ?_
      refine zq_st (t*16+i) (zq_cp 16 pv f t i (f*16+i)) (zq_16a t i) (zq_rd (f*16+i) (zq_16a f i) rfl) ?_
      refine nm_r (nI_1 i) ?_
      rw [zq_cp16s _ _ _ (by omega), zq_cp16s _ _ _ (by omega)]
      exact ih (i+1) (by omega)
theorem zq_ycs1 {post : SY → Prop} {f t : Nat} (hf : f < 20) (ht : t < 20) (hb : ∀ x, x < 16 → ph (f*16+x) = 0 ∨ ph (f*16+x) = 1) (h : post (nI T, nI N, nI D, nI L, nI K, pg, cv, cr, st, dp, sc, rs, mr, rd, pc, zq_cp 4 rg f t 4, zq_cp 16 ph f t 16, zq_cp 16 pv f t 16, wh, wv)) : ∀ d i : Nat, i + d = 4 → wY_copySlot_14 post (nI f) (nI t) (nI T) (nI N) (nI D) (nI L) (nI K) (d + 1) (nI i) pg cv cr st dp sc rs mr rd pc (zq_cp 4 rg f t i) ph pv wh wv := by
  intro d
  induction d with
  | zero =>
    intro i hi
    obtain rfl : i = 4 := by omega
    have e := zq_ycs2 (rg := zq_cp 4 rg f t 4) hf ht hb h 16 0 rfl
    rw [zq_cp0, zq_cp0] at e
    exact br_t (nI_le (a := 4) (b := 4) (by omega) (by omega)) ⟨17, e⟩
  | succ d ih =>
    intro i hi
    refine br_f (nI_ge (b := 4) (by omega) (by omega)) ?_
    refine zq_in (f*4+i) (zq_4a f i) ?_
    refine zq_st (t*4+i) (zq_cp 4 rg f t i (f*4+i)) (zq_4a t i) (zq_rd (f*4+i) (zq_4a f i) rfl) ?_
    refine nm_r (nI_1 i) ?_
    rw [zq_cp4s _ _ _ (by omega)]
    exact ih (i+1) (by omega)
theorem zq_ycs {post : SY → Prop} {f t : Nat} {p q : Int32} (hp : p = nI f) (hq : q = nI t) (hf : f < 20) (ht : t < 20) (hb : ∀ x, x < 16 → ph (f*16+x) = 0 ∨ ph (f*16+x) = 1) (h : post (nI T, nI N, nI D, nI L, nI K, pg, cv, cr, st, dp, sc, rs, mr, rd, upd pc t (pc f), zq_cp 4 rg f t 4, zq_cp 16 ph f t 16, zq_cp 16 pv f t 16, wh, wv)) : wpY_copySlot post (nI T, nI N, nI D, nI L, nI K, pg, cv, cr, st, dp, sc, rs, mr, rd, pc, rg, ph, pv, wh, wv) p q := by
  subst hp hq
  refine zq_in f rfl ?_
  refine zq_st t (pc f) rfl (zq_rd f rfl rfl) ?_
  have e := zq_ycs1 (pc := upd pc t (pc f)) hf ht hb h 4 0 rfl
  rw [zq_cp0] at e
  exact ⟨5, e⟩
-- Y: clean
theorem zq_ycl1 {post : SY → Prop} {t : Nat} (ht : t < 4) (h : post (nI T, nI N, nI D, nI L, nI K, pg, cv, cr, st, dp, sc, rs, mr, zq_fl rd (t*16) 16, pc, rg, zq_fl ph ((t*5+1)*16) 16, pv, wh, wv)) : ∀ d i : Nat, i + d = 16 → wY_clean_33 post (nI t) (nI T) (nI N) (nI D) (nI L) (nI K) (d + 1) (nI i) pg cv cr st dp sc rs mr (zq_fl rd (t*16) i) pc rg (zq_fl ph ((t*5+1)*16) i) pv wh wv := by
  intro d
  induction d with
  | zero =>
    intro i hi
    obtain rfl : i = 16 := by omega
    exact br_t (nI_le (a := 16) (b := 16) (by omega) (by omega)) h
  | succ d ih =>
    intro i hi
    refine br_f (nI_ge (b := 16) (by omega) (by omega)) ?_
    refine zq_st (t*16+i) 0 (zq_16a t i) zq_n0 ?_
    refine zq_st ((t*5+1)*16+i) 0 (zq_5116 t i) zq_n0 ?_
    refine nm_r (nI_1 i) ?_
    rw [zq_fls, zq_fls]
    exact ih (i+1) (by omega)
theorem zq_yclean {post : SY → Prop} {t f : Nat} {p : Int32} (hp : p = nI f) (ht : t < 4) (hf : f < 20) (hb : ∀ x, x < 16 → ph (f*16+x) = 0 ∨ ph (f*16+x) = 1) (h : post (nI T, nI N, nI D, nI L, nI K, pg, cv, cr, st, upd dp t 0, upd sc t 0, rs, upd mr t 0, zq_fl rd (t*16) 16, upd pc (t*5+1) (pc f), zq_cp 4 rg f (t*5+1) 4, zq_fl (zq_cp 16 ph f (t*5+1) 16) ((t*5+1)*16) 16, zq_cp 16 pv f (t*5+1) 16, wh, wv)) : wpY_clean post (nI T, nI N, nI D, nI L, nI K, pg, cv, cr, st, dp, sc, rs, mr, rd, pc, rg, ph, pv, wh, wv) (nI t) p := by
  unfold wpY_clean
  refine zq_ycs (f := f) (t := t*5+1) hp (zq_51 t) hf (by omega) hb ?_
  refine zq_st t 0 rfl rfl ?_
  refine zq_st t 0 rfl rfl ?_
  refine zq_st t 0 rfl zq_n0 ?_
  have e := zq_ycl1 (dp := upd dp t 0) (sc := upd sc t 0) (mr := upd mr t 0) (pc := upd pc (t*5+1) (pc f)) (rg := zq_cp 4 rg f (t*5+1) 4) (ph := zq_cp 16 ph f (t*5+1) 16) (pv := zq_cp 16 pv f (t*5+1) 16) ht h 16 0 rfl
  rw [zq_fl0, zq_fl0] at e
  exact ⟨17, e⟩
theorem zq_yrestart {post : SY → Prop} {t : Nat} (ht : t < 4) (hb : ∀ x, x < 16 → ph (t*5*16+x) = 0 ∨ ph (t*5*16+x) = 1) (h : post (nI T, nI N, nI D, nI L, nI K, pg, cv, cr, upd st t 2, upd dp t 0, upd sc t 0, zq_inc rs t, upd mr t 0, zq_fl rd (t*16) 16, upd pc (t*5+1) (pc (t*5)), zq_cp 4 rg (t*5) (t*5+1) 4, zq_fl (zq_cp 16 ph (t*5) (t*5+1) 16) ((t*5+1)*16) 16, zq_cp 16 pv (t*5) (t*5+1) 16, wh, wv)) : wpY_restart post (nI T, nI N, nI D, nI L, nI K, pg, cv, cr, st, dp, sc, rs, mr, rd, pc, rg, ph, pv, wh, wv) (nI t) := by
  unfold wpY_restart
  refine zq_yclean (f := t*5) (zq_5 t) ht (by omega) hb ?_
  refine zq_st t 2 rfl rfl ?_
  refine zq_in t rfl ?_
  have e : rs (nI t).toNatClampNeg = rs t := zq_rd t rfl rfl
  by_cases c : 63 ≤ rs t
  · rw [zq_inc, if_pos c] at h
    exact br_t (by rw [e]; exact c) h
  · rw [zq_inc, if_neg c] at h
    exact br_f (by rw [e]; exact c) (zq_in t rfl (zq_st t (rs t + 1) rfl (by rw [e]) h))
theorem zq_yfail {post : Int32 → SY → Prop} {t d : Nat} {y : Int32} (ht : t < 4) (hd : dp t = nI d) (hd3 : d ≤ 3) (hb : ∀ x, x < 16 → ph ((t*5+1+d)*16+x) = 0 ∨ ph ((t*5+1+d)*16+x) = 1) (h : post 6 (nI T, nI N, nI D, nI L, nI K, pg, cv, cr, upd st t y, upd dp t 0, upd sc t 0, rs, upd mr t 0, zq_fl rd (t*16) 16, upd pc (t*5+1) (pc (t*5+1+d)), zq_cp 4 rg (t*5+1+d) (t*5+1) 4, zq_fl (zq_cp 16 ph (t*5+1+d) (t*5+1) 16) ((t*5+1)*16) 16, zq_cp 16 pv (t*5+1+d) (t*5+1) 16, wh, wv)) : wpY_fail post (nI T, nI N, nI D, nI L, nI K, pg, cv, cr, st, dp, sc, rs, mr, rd, pc, rg, ph, pv, wh, wv) (nI t) y := by
  refine zq_in t rfl ?_
  refine zq_yclean (f := t*5+1+d) (zq_topY (zq_rd t rfl hd)) ht (by omega) hb ?_
  exact zq_st t y rfl rfl h
end
end
section
-- both sides at once: one answer, two states that are related, for every post
abbrev zq_J (Q : SX → SY → Prop) (A : (Int32 → SX → Prop) → Prop) (B : (Int32 → SY → Prop) → Prop) : Prop := ∃ (r : Int32) (u : SX) (v : SY), Q u v ∧ (∀ post : Int32 → SX → Prop, post r u → A post) ∧ (∀ post : Int32 → SY → Prop, post r v → B post)
theorem zq_J_mono {Q : SX → SY → Prop} {A A' : (Int32 → SX → Prop) → Prop} {B B' : (Int32 → SY → Prop) → Prop} (h : zq_J Q A B) (ha : ∀ post, A post → A' post) (hb : ∀ post, B post → B' post) : zq_J Q A' B' := by
  obtain ⟨r, u, v, h1, h2, h3⟩ := h
  exact ⟨r, u, v, h1, fun post hp => ha post (h2 post hp), fun post hp => hb post (h3 post hp)⟩
theorem zq_xe {post : Int32 → SX → Prop} {r : Int32} {u : SX} (h : post r u) : (match u with | (f1, f2, f3, f4, f5, a1, a2, a3, a4, a5, a6, a7, a8, a9, a10, a11, a12, a13, a14, a15, a16, a17) => post r (f1, f2, f3, f4, f5, a1, a2, a3, a4, a5, a6, a7, a8, a9, a10, a11, a12, a13, a14, a15, a16, a17)) := by
  obtain ⟨f1, f2, f3, f4, f5, a1, a2, a3, a4, a5, a6, a7, a8, a9, a10, a11, a12, a13, a14, a15, a16, a17⟩ := u
  exact h
theorem zq_ye {post : Int32 → SY → Prop} {r : Int32} {u : SY} (h : post r u) : (match u with | (f1, f2, f3, f4, f5, a1, a2, a3, a4, a5, a6, a7, a8, a9, a10, a11, a12, a13, a14, a15) => post r (f1, f2, f3, f4, f5, a1, a2, a3, a4, a5, a6, a7, a8, a9, a10, a11, a12, a13, a14, a15)) := by
  obtain ⟨f1, f2, f3, f4, f5, a1, a2, a3, a4, a5, a6, a7, a8, a9, a10, a11, a12, a13, a14, a15⟩ := u
  exact h
section
variable {T N D L K : Nat} {co ca cb cc cv cr sg st dp sc rs rm mr pc sw rg sv pg rd ph pv wh wv : Nat → Int32}
theorem zq_lt0 {b x : Int32} (h : x = 0) : zq_lt b x := fun _ => ⟨0, by omega, h⟩
-- the depth of a thread, its top slot
theorem zq_dep (h : zq_RL T N D L K co ca cb cc st dp sc rm mr pc sw sv pg rd ph pv) {t : Nat} (ht : t < 4) : ∃ d, d ≤ D ∧ d ≤ 3 ∧ dp t = nI d := by
  obtain ⟨hB, hC, hT, hR, hP, hS, hO⟩ := h
  obtain ⟨d, hd, e⟩ := (hT t ht).2.1
  exact ⟨d, hd, by have := hB.2.2.1; omega, e⟩
-- a fault
theorem zq_jfail (h : zq_RL T N D L K co ca cb cc st dp sc rm mr pc sw sv pg rd ph pv) {t : Nat} (ht : t < T) (b y : Int32) : ∃ (u : SX) (v : SY), zq_re co t b u v ∧ (∀ post : Int32 → SX → Prop, post 6 u → wpX_fail post (nI T, nI N, nI D, nI L, nI K, co, ca, cb, cc, cv, cr, sg, st, dp, sc, rs, rm, mr, pc, sw, rg, sv) (nI t) y) ∧ (∀ post : Int32 → SY → Prop, post 6 v → wpY_fail post (nI T, nI N, nI D, nI L, nI K, pg, cv, cr, st, dp, sc, rs, mr, rd, pc, rg, ph, pv, wh, wv) (nI t) y) := by
  have ht4 : t < 4 := by have := h.1.1; omega
  obtain ⟨d, hdD, hd3, hd⟩ := zq_dep h ht4
  have hP : zq_P (upd pc (t*5+1) (pc (t*5+1+d))) := zq_P_u h.2.2.2.2.1 _ (h.2.2.2.2.1 _ (by omega))
  exact ⟨(nI T, nI N, nI D, nI L, nI K, co, ca, cb, cc, cv, cr, sg, upd st t y, upd dp t 0, upd sc t 0, rs, upd rm t 0, upd mr t 0, upd pc (t*5+1) (pc (t*5+1+d)), upd sw (t*5+1) 0, zq_cp 4 rg (t*5+1+d) (t*5+1) 4, sv), (nI T, nI N, nI D, nI L, nI K, pg, cv, cr, upd st t y, upd dp t 0, upd sc t 0, rs, upd mr t 0, zq_fl rd (t*16) 16, upd pc (t*5+1) (pc (t*5+1+d)), zq_cp 4 rg (t*5+1+d) (t*5+1) 4, zq_fl (zq_cp 16 ph (t*5+1+d) (t*5+1) 16) ((t*5+1)*16) 16, zq_cp 16 pv (t*5+1+d) (t*5+1) 16, wh, wv), zq_re_mk (zq_RL_clean h ht (t*5+1+d) y hP) (zq_lt0 pk_us), fun post hp => zq_xfail ht4 hd hd3 hp, fun post hp => zq_yfail ht4 hd hd3 (zq_S01 h.2.2.2.2.2.1 (by omega)) hp⟩
-- a restart
theorem zq_jrestart (h : zq_RL T N D L K co ca cb cc st dp sc rm mr pc sw sv pg rd ph pv) {t : Nat} (ht : t < T) : ∃ (u : SX) (v : SY), zq_rr u v ∧ (∀ post : SX → Prop, post u → wpX_restart post (nI T, nI N, nI D, nI L, nI K, co, ca, cb, cc, cv, cr, sg, st, dp, sc, rs, rm, mr, pc, sw, rg, sv) (nI t)) ∧ (∀ post : SY → Prop, post v → wpY_restart post (nI T, nI N, nI D, nI L, nI K, pg, cv, cr, st, dp, sc, rs, mr, rd, pc, rg, ph, pv, wh, wv) (nI t)) := by
  have ht4 : t < 4 := by have := h.1.1; omega
  have hP : zq_P (upd pc (t*5+1) (pc (t*5))) := zq_P_u h.2.2.2.2.1 _ (h.2.2.2.2.1 _ (by omega))
  exact ⟨(nI T, nI N, nI D, nI L, nI K, co, ca, cb, cc, cv, cr, sg, upd st t 2, upd dp t 0, upd sc t 0, zq_inc rs t, upd rm t 0, upd mr t 0, upd pc (t*5+1) (pc (t*5)), upd sw (t*5+1) 0, zq_cp 4 rg (t*5) (t*5+1) 4, sv), (nI T, nI N, nI D, nI L, nI K, pg, cv, cr, upd st t 2, upd dp t 0, upd sc t 0, zq_inc rs t, upd mr t 0, zq_fl rd (t*16) 16, upd pc (t*5+1) (pc (t*5)), zq_cp 4 rg (t*5) (t*5+1) 4, zq_fl (zq_cp 16 ph (t*5) (t*5+1) 16) ((t*5+1)*16) 16, zq_cp 16 pv (t*5) (t*5+1) 16, wh, wv), zq_rr_mk (zq_RL_clean h ht (t*5) 2 hP), fun post hp => zq_xrestart ht4 hp, fun post hp => zq_yrestart ht4 (zq_S01 h.2.2.2.2.2.1 (by omega)) hp⟩
end
end
section
-- the set that is published, as bits
def zq_W (N : Nat) (m : Int32) (cv sg : Nat → Int32) (y : Nat) : Bool := decide (y < N) && (bt m y && decide (¬ cv y = sg y))
def zq_cm (W : Nat → Bool) : Nat → Int32
  | 0 => 0
  | i + 1 => if W i = true then zq_cm W i ||| ((1 : Int32) <<< (nI i &&& 31)) else zq_cm W i
theorem zq_cm_t {W : Nat → Bool} {i : Nat} (h : W i = true) : zq_cm W (i + 1) = zq_cm W i ||| ((1 : Int32) <<< (nI i &&& 31)) := if_pos h
theorem zq_cm_f {W : Nat → Bool} {i : Nat} (h : W i = false) : zq_cm W (i + 1) = zq_cm W i := if_neg (by rw [h]; exact Bool.noConfusion)
theorem zq_cmb (W : Nat → Bool) : ∀ i : Nat, i ≤ 32 → ∀ y : Nat, bt (zq_cm W i) y = (decide (y < i) && W y) := by
  intro i
  induction i with
  | zero =>
    intro _ y
    rw [decide_eq_false (by omega), Bool.false_and]
    exact b_0 y
  | succ i ih =>
    intro hi y
    cases e : W i
    · rw [zq_cm_f e, ih (by omega) y]
      by_cases g : y = i
      · subst g
        rw [e, Bool.and_false, Bool.and_false]
      · rw [show decide (y < i + 1) = decide (y < i) from decide_eq_decide.mpr (by omega)]
    · rw [zq_cm_t e, b_or, ih (by omega) y, zq_sh (by omega)]
      by_cases g : y = i
      · subst g
        rw [e, decide_eq_true rfl, Bool.or_true, decide_eq_true (by omega)]
        rfl
      · rw [decide_eq_false g, Bool.or_false, show decide (y < i + 1) = decide (y < i) from decide_eq_decide.mpr (by omega)]
def zq_any (P : Nat → Bool) : Nat → Bool
  | 0 => false
  | j + 1 => zq_any P j || P j
theorem zq_any_f {P : Nat → Bool} {j : Nat} (h : P j = false) : zq_any P (j + 1) = zq_any P j := by
  show (zq_any P j || P j) = _
  rw [h, Bool.or_false]
theorem zq_any_t {P : Nat → Bool} {j : Nat} (h : P j = true) : zq_any P (j + 1) = true := by
  show (zq_any P j || P j) = _
  rw [h, Bool.or_true]
theorem zq_any_iff (P : Nat → Bool) : ∀ n : Nat, zq_any P n = false ↔ ∀ y, y < n → P y = false := by
  intro n
  induction n with
  | zero => exact ⟨fun _ y hy => absurd hy (Nat.not_lt_zero y), fun _ => rfl⟩
  | succ n ih =>
    show (zq_any P n || P n) = false ↔ _
    rw [Bool.or_eq_false_iff, ih]
    constructor
    · intro h y hy
      by_cases g : y = n
      · rw [g]
        exact h.2
      · exact h.1 y (by omega)
    · intro h
      exact ⟨fun y hy => h y (by omega), h n (by omega)⟩
-- moved values
def zq_mv (W : Nat → Bool) (s a : Nat → Int32) (i : Nat) : Nat → Int32 := fun y => if y < i ∧ W y = true then s y else a y
theorem zq_mv0 (W : Nat → Bool) (s a : Nat → Int32) : zq_mv W s a 0 = a := funext fun y => if_neg (fun z => absurd z.1 (Nat.not_lt_zero y))
theorem zq_mv_t (W : Nat → Bool) (s a : Nat → Int32) {i : Nat} (h : W i = true) : upd (zq_mv W s a i) i (s i) = zq_mv W s a (i + 1) := by
  funext y
  unfold upd zq_mv
  by_cases g : y = i
  · subst g
    rw [if_pos rfl, if_pos ⟨by omega, h⟩]
  · rw [if_neg g]
    by_cases k : y < i ∧ W y = true
    · rw [if_pos k, if_pos ⟨by omega, k.2⟩]
    · rw [if_neg k, if_neg (fun z => k ⟨by omega, z.2⟩)]
theorem zq_mv_f (W : Nat → Bool) (s a : Nat → Int32) {i : Nat} (h : W i = false) : zq_mv W s a (i + 1) = zq_mv W s a i := by
  funext y
  unfold zq_mv
  by_cases k : y < i ∧ W y = true
  · rw [if_pos k, if_pos ⟨by omega, k.2⟩]
  · rw [if_neg k, if_neg]
    intro z
    by_cases g : y = i
    · rw [g, h] at z
      exact Bool.noConfusion z.2
    · exact k ⟨by omega, z.2⟩
theorem zq_mv_eq {W : Nat → Bool} {s s' a : Nat → Int32} {n n' : Nat} (h : ∀ y, W y = true → y < n ∧ y < n' ∧ s y = s' y) : zq_mv W s a n = zq_mv W s' a n' := by
  funext y
  unfold zq_mv
  by_cases k : W y = true
  · rw [if_pos ⟨(h y k).1, k⟩, if_pos ⟨(h y k).2.1, k⟩]
    exact (h y k).2.2
  · rw [if_neg (fun z => k z.2), if_neg (fun z => k z.2)]
def zq_ww (W : Nat → Bool) (wh : Nat → Int32) (j : Nat) : Nat → Int32 := fun y => if y < j then zq_bz (W y) else wh y
theorem zq_ww0 (W : Nat → Bool) (wh : Nat → Int32) : zq_ww W wh 0 = wh := funext fun y => if_neg (Nat.not_lt_zero y)
theorem zq_ww_j (W : Nat → Bool) (wh : Nat → Int32) (j : Nat) : zq_ww W wh j j = wh j := if_neg (Nat.lt_irrefl j)
theorem zq_ww_s (W : Nat → Bool) (wh : Nat → Int32) (j : Nat) : upd (zq_ww W wh j) j (zq_bz (W j)) = zq_ww W wh (j + 1) := by
  funext y
  unfold upd zq_ww
  by_cases g : y = j
  · subst g
    rw [if_pos rfl, if_pos (by omega)]
  · rw [if_neg g]
    by_cases k : y < j
    · rw [if_pos k, if_pos (by omega)]
    · rw [if_neg k, if_neg (by omega)]
section
variable {T N D L K : Nat} {co ca cb cc cv cr sg st dp sc rs rm mr pc sw rg sv pg rd ph pv wh wv : Nat → Int32}
-- X: the two loops
theorem zq_xp5 {post : Int32 → SX → Prop} {w m : Int32} (hN : N ≤ 16) (hE : ∀ n, wX_publish_5 post w m (nI T) (nI N) (nI D) (nI L) (nI K) co ca cb cc cv cr sg st dp sc rs rm mr pc sw rg sv (n + 1) (zq_cm (zq_W N m cv sg) N) (nI N)) : ∀ d i : Nat, i + d = N → wX_publish_5 post w m (nI T) (nI N) (nI D) (nI L) (nI K) co ca cb cc cv cr sg st dp sc rs rm mr pc sw rg sv (d + 1) (zq_cm (zq_W N m cv sg) i) (nI i) := by
  intro d
  induction d with
  | zero =>
    intro i hi
    obtain rfl : i = N := by omega
    exact hE 0
  | succ d ih =>
    intro i hi
    have ih' := ih (i + 1) (by omega)
    refine br_f (nI_ge (by omega) (by omega)) ?_
    refine zq_xhb (by omega) ?_
    have ec : cv (nI i).toNatClampNeg = cv i := zq_rd i rfl rfl
    have es : sg (nI i).toNatClampNeg = sg i := zq_rd i rfl rfl
    cases e : bt m i
    · rw [zq_cm_f (by unfold zq_W; rw [e, Bool.false_and, Bool.and_false])] at ih'
      exact br_t rfl (nm_r (nI_1 i) ih')
    · refine br_f (by decide) ?_
      refine zq_in i rfl ?_
      refine zq_in i rfl ?_
      by_cases c : cv i = sg i
      · rw [zq_cm_f (by unfold zq_W; rw [decide_eq_false (p := ¬ cv i = sg i) (fun z => z c), Bool.and_false, Bool.and_false])] at ih'
        exact br_t (by rw [ec, es]; exact c) (nm_r (nI_1 i) ih')
      · rw [zq_cm_t (by unfold zq_W; rw [e, decide_eq_true c, decide_eq_true (by omega)]; rfl)] at ih'
        exact br_f (by rw [ec, es]; exact c) (nm_e (nm_r (nI_1 i) ih'))
theorem zq_xp85 {post : Int32 → SX → Prop} {w c : Int32} {W : Nat → Bool} (hN : N ≤ 16) (hc : ∀ i, i < N → bt c i = W i) (hE : ∀ n, wX_publish_85 post w c (nI T) (nI N) (nI D) (nI L) (nI K) (n + 1) (nI N) co ca cb cc (zq_mv W sg cv N) (zq_mv W (fun _ => nI K) cr N) sg st dp sc rs rm mr pc sw rg sv) : ∀ d i : Nat, i + d = N → wX_publish_85 post w c (nI T) (nI N) (nI D) (nI L) (nI K) (d + 1) (nI i) co ca cb cc (zq_mv W sg cv i) (zq_mv W (fun _ => nI K) cr i) sg st dp sc rs rm mr pc sw rg sv := by
  intro d
  induction d with
  | zero =>
    intro i hi
    obtain rfl : i = N := by omega
    exact hE 0
  | succ d ih =>
    intro i hi
    have ih' := ih (i + 1) (by omega)
    refine br_f (nI_ge (by omega) (by omega)) ?_
    refine zq_xhb (by omega) ?_
    rw [hc i (by omega)]
    cases e : W i
    · rw [zq_mv_f W sg cv e, zq_mv_f W (fun _ => nI K) cr e] at ih'
      exact br_t rfl (nm_r (nI_1 i) ih')
    · rw [← zq_mv_t W sg cv e, ← zq_mv_t W (fun _ => nI K) cr e] at ih'
      refine br_f (by decide) ?_
      refine zq_in i rfl ?_
      refine zq_st i (sg i) rfl (zq_rd i rfl rfl) ?_
      refine zq_st i (nI K) rfl rfl ?_
      exact nm_r (nI_1 i) ih'
theorem zq_xp_no {post : Int32 → SX → Prop} {w m : Int32} (hN : N ≤ 16) (hc : zq_cm (zq_W N m cv sg) N = 0) (h : post 1 (nI T, nI N, nI D, nI L, nI K, co, ca, cb, cc, cv, cr, sg, st, dp, sc, rs, rm, mr, pc, sw, rg, sv)) : wpX_publish post (nI T, nI N, nI D, nI L, nI K, co, ca, cb, cc, cv, cr, sg, st, dp, sc, rs, rm, mr, pc, sw, rg, sv) w m :=
  ⟨N + 1, zq_xp5 hN (fun n => br_t (nI_le (Nat.le_refl N) (by omega)) (br_t hc h)) N 0 (by omega)⟩
theorem zq_xp_full {post : Int32 → SX → Prop} {w m : Int32} (hN : N ≤ 16) (hc : ¬ zq_cm (zq_W N m cv sg) N = 0) (hK : K = 500) (h : post 0 (nI T, nI N, nI D, nI L, nI K, co, ca, cb, cc, cv, cr, sg, st, dp, sc, rs, rm, mr, pc, sw, rg, sv)) : wpX_publish post (nI T, nI N, nI D, nI L, nI K, co, ca, cb, cc, cv, cr, sg, st, dp, sc, rs, rm, mr, pc, sw, rg, sv) w m :=
  ⟨N + 1, zq_xp5 hN (fun n => br_t (nI_le (Nat.le_refl N) (by omega)) (br_f hc (br_f (nI_nlt (b := 500) (by omega) (by omega)) h))) N 0 (by omega)⟩
end
section
variable {T N D L K : Nat} {co ca cb cc cv cr sg st dp sc rs rm mr pc sw rg sv pg rd ph pv wh wv : Nat → Int32}
variable {K' : Nat} {cv' cr' st' dp' sc' rs' rm' mr' pc' sw' rg' rd' ph' pv' wh' : Nat → Int32}
theorem zq_xp_go {post : Int32 → SX → Prop} {w m : Int32} (hN : N ≤ 16) (hc : ¬ zq_cm (zq_W N m cv sg) N = 0) (hK : K < 500) (hn : ∀ Q : SX → Prop, Q (nI T, nI N, nI D, nI L, nI K', co, ca, cb, cc, cv', cr', sg, st', dp', sc', rs', rm', mr', pc', sw', rg', sv) → wpX_notifyReaders Q (nI T, nI N, nI D, nI L, nI (K+1), co, ca, cb, cc, zq_mv (zq_W N m cv sg) sg cv N, zq_mv (zq_W N m cv sg) (fun _ => nI (K+1)) cr N, sg, st, dp, sc, rs, rm, mr, pc, sw, rg, sv) w (zq_cm (zq_W N m cv sg) N)) (h : post 1 (nI T, nI N, nI D, nI L, nI K', co, ca, cb, cc, cv', cr', sg, st', dp', sc', rs', rm', mr', pc', sw', rg', sv)) : wpX_publish post (nI T, nI N, nI D, nI L, nI K, co, ca, cb, cc, cv, cr, sg, st, dp, sc, rs, rm, mr, pc, sw, rg, sv) w m := by
  refine ⟨N + 1, zq_xp5 hN (fun n => br_t (nI_le (Nat.le_refl N) (by omega)) (br_f hc (br_t (nI_lt (b := 500) (by omega) (by omega)) (nm_r (nI_1 K) ?_)))) N 0 (by omega)⟩
  have e := zq_xp85 (post := post) (w := w) (c := zq_cm (zq_W N m cv sg) N) (W := zq_W N m cv sg) (K := K + 1) (T := T) (D := D) (L := L) (co := co) (ca := ca) (cb := cb) (cc := cc) (cv := cv) (cr := cr) (sg := sg) (st := st) (dp := dp) (sc := sc) (rs := rs) (rm := rm) (mr := mr) (pc := pc) (sw := sw) (rg := rg) (sv := sv) hN (fun i hi => by rw [zq_cmb _ N (by omega), decide_eq_true hi, Bool.true_and]) (fun n => br_t (nI_le (Nat.le_refl N) (by omega)) (hn _ h)) N 0 (by omega)
  rw [zq_mv0, zq_mv0] at e
  exact ⟨N + 1, e⟩
end
section
variable {T N D L K : Nat} {co ca cb cc cv cr sg st dp sc rs rm mr pc sw rg sv pg rd ph pv wh wv : Nat → Int32}
-- Y: the loops
theorem zq_y44 {post : Int32 → SY → Prop} {w : Int32} {J4 : Int32 → Int32 → (Nat → Int32) → (Nat → Int32) → (Nat → Int32) → (Nat → Int32) → (Nat → Int32) → (Nat → Int32) → (Nat → Int32) → (Nat → Int32) → (Nat → Int32) → (Nat → Int32) → (Nat → Int32) → (Nat → Int32) → (Nat → Int32) → (Nat → Int32) → (Nat → Int32) → Prop} {a b : Bool} {j : Nat} (hj : j < 16) (h : J4 (zq_bz (a || b)) (nI (j + 1)) pg cv cr st dp sc rs mr rd pc rg ph pv (upd wh j (zq_bz b)) wv) : wY_publish_44 post J4 w (zq_bz a) (nI j) (zq_bz b) (nI j) (nI T) (nI N) (nI D) (nI L) (nI K) pg cv cr st dp sc rs mr rd pc rg ph pv wh wv := by
  refine zq_st j (zq_bz b) rfl (zq_nb (zq_bz01 b)) ?_
  refine zq_in j rfl ?_
  have e : upd wh j (zq_bz b) (nI j).toNatClampNeg = zq_bz b := zq_rd j rfl pk_us
  cases b
  · rw [Bool.or_false] at h
    exact br_t e (nm_r (nI_1 j) h)
  · rw [Bool.or_true] at h
    exact br_f (by rw [e]; decide) (nm_r (nI_1 j) h)
theorem zq_yp4 {post : Int32 → SY → Prop} {w : Int32} {W : Nat → Bool} (hW : ∀ y, y < 16 → W y = (decide (¬ wh y = 0) && decide (¬ wv y = cv y))) (hE : ∀ n, wY_publish_4 post w (nI T) (nI N) (nI D) (nI L) (nI K) (n + 1) (zq_bz (zq_any W 16)) (nI 16) pg cv cr st dp sc rs mr rd pc rg ph pv (zq_ww W wh 16) wv) : ∀ d j : Nat, j + d = 16 → wY_publish_4 post w (nI T) (nI N) (nI D) (nI L) (nI K) (d + 1) (zq_bz (zq_any W j)) (nI j) pg cv cr st dp sc rs mr rd pc rg ph pv (zq_ww W wh j) wv := by
  intro d
  induction d with
  | zero =>
    intro j hj
    obtain rfl : j = 16 := by omega
    exact hE 0
  | succ d ih =>
    intro j hj
    have ih' := ih (j + 1) (by omega)
    rw [← zq_ww_s] at ih'
    have e : zq_ww W wh j (nI j).toNatClampNeg = wh j := zq_rd j rfl (zq_ww_j W wh j)
    have ev : wv (nI j).toNatClampNeg = wv j := zq_rd j rfl rfl
    have ec : cv (nI j).toNatClampNeg = cv j := zq_rd j rfl rfl
    have hWj := hW j (by omega)
    refine br_f (nI_ge (b := 16) (by omega) (by omega)) ?_
    refine zq_in j rfl ?_
    by_cases c : wh j = 0
    · rw [decide_eq_false (fun z => z c), Bool.false_and] at hWj
      rw [hWj] at ih'
      refine br_t (e.trans c) ?_
      refine zq_y44 (b := false) (by omega) ?_
      have g : zq_any W (j + 1) = (zq_any W j || false) := congrArg (zq_any W j || ·) hWj
      rw [g] at ih'
      exact ih'
    · rw [decide_eq_true c, Bool.true_and] at hWj
      refine br_f (fun z => c (e.symm.trans z)) ?_
      refine zq_in j rfl ?_
      refine zq_in j rfl ?_
      by_cases c2 : wv j = cv j
      · rw [decide_eq_false (fun z => z c2)] at hWj
        rw [hWj] at ih'
        refine br_t (by rw [ev, ec]; exact c2) ?_
        refine zq_y44 (b := false) (by omega) ?_
        have g : zq_any W (j + 1) = (zq_any W j || false) := congrArg (zq_any W j || ·) hWj
        rw [g] at ih'
        exact ih'
      · rw [decide_eq_true c2] at hWj
        rw [hWj] at ih'
        refine br_f (by rw [ev, ec]; exact c2) ?_
        refine zq_y44 (b := true) (by omega) ?_
        have g : zq_any W (j + 1) = (zq_any W j || true) := congrArg (zq_any W j || ·) hWj
        rw [g] at ih'
        exact ih'
theorem zq_yp92 {post : Int32 → SY → Prop} {w : Int32} {W : Nat → Bool} (hW : ∀ y, y < 16 → wh y = zq_bz (W y)) (hE : ∀ n, wY_publish_92 post w (nI T) (nI N) (nI D) (nI L) (nI K) (n + 1) (nI 16) pg (zq_mv W wv cv 16) (zq_mv W (fun _ => nI K) cr 16) st dp sc rs mr rd pc rg ph pv wh wv) : ∀ d j : Nat, j + d = 16 → wY_publish_92 post w (nI T) (nI N) (nI D) (nI L) (nI K) (d + 1) (nI j) pg (zq_mv W wv cv j) (zq_mv W (fun _ => nI K) cr j) st dp sc rs mr rd pc rg ph pv wh wv := by
  intro d
  induction d with
  | zero =>
    intro j hj
    obtain rfl : j = 16 := by omega
    exact hE 0
  | succ d ih =>
    intro j hj
    have ih' := ih (j + 1) (by omega)
    have e : wh (nI j).toNatClampNeg = zq_bz (W j) := zq_rd j rfl (hW j (by omega))
    refine br_f (nI_ge (b := 16) (by omega) (by omega)) ?_
    refine zq_in j rfl ?_
    cases g : W j
    · rw [zq_mv_f W wv cv g, zq_mv_f W (fun _ => nI K) cr g] at ih'
      rw [g] at e
      exact br_t e (nm_r (nI_1 j) ih')
    · rw [← zq_mv_t W wv cv g, ← zq_mv_t W (fun _ => nI K) cr g] at ih'
      rw [g] at e
      refine br_f (by rw [e]; decide) ?_
      refine zq_in j rfl ?_
      refine zq_st j (wv j) rfl (zq_rd j rfl rfl) ?_
      refine zq_st j (nI K) rfl rfl ?_
      exact nm_r (nI_1 j) ih'
theorem zq_yp_no {post : Int32 → SY → Prop} {w : Int32} {W : Nat → Bool} (hW : ∀ y, y < 16 → W y = (decide (¬ wh y = 0) && decide (¬ wv y = cv y))) (ha : zq_any W 16 = false) (h : post 1 (nI T, nI N, nI D, nI L, nI K, pg, cv, cr, st, dp, sc, rs, mr, rd, pc, rg, ph, pv, zq_ww W wh 16, wv)) : wpY_publish post (nI T, nI N, nI D, nI L, nI K, pg, cv, cr, st, dp, sc, rs, mr, rd, pc, rg, ph, pv, wh, wv) w := by
  have e := zq_yp4 (post := post) (w := w) hW (fun n => br_t (nI_le (a := 16) (b := 16) (by omega) (by omega)) (br_t (by rw [ha]; rfl) h)) 16 0 (by omega)
  rw [zq_ww0] at e
  exact ⟨17, e⟩
theorem zq_yp_full {post : Int32 → SY → Prop} {w : Int32} {W : Nat → Bool} (hW : ∀ y, y < 16 → W y = (decide (¬ wh y = 0) && decide (¬ wv y = cv y))) (ha : zq_any W 16 = true) (hK : K = 500) (h : post 0 (nI T, nI N, nI D, nI L, nI K, pg, cv, cr, st, dp, sc, rs, mr, rd, pc, rg, ph, pv, zq_ww W wh 16, wv)) : wpY_publish post (nI T, nI N, nI D, nI L, nI K, pg, cv, cr, st, dp, sc, rs, mr, rd, pc, rg, ph, pv, wh, wv) w := by
  have e := zq_yp4 (post := post) (w := w) hW (fun n => br_t (nI_le (a := 16) (b := 16) (by omega) (by omega)) (br_f (by rw [ha]; decide) (br_t (by rw [hK]; rfl) h))) 16 0 (by omega)
  rw [zq_ww0] at e
  exact ⟨17, e⟩
theorem zq_yp_go {post : Int32 → SY → Prop} {w : Int32} {W : Nat → Bool} (hW : ∀ y, y < 16 → W y = (decide (¬ wh y = 0) && decide (¬ wv y = cv y))) (ha : zq_any W 16 = true) (hK : K < 500) {n : Nat} (h : wY_publish_137 post w n 0 (nI T) (nI N) (nI D) (nI L) (nI (K+1)) pg (zq_mv W wv cv 16) (zq_mv W (fun _ => nI (K+1)) cr 16) st dp sc rs mr rd pc rg ph pv (zq_ww W wh 16) wv) : wpY_publish post (nI T, nI N, nI D, nI L, nI K, pg, cv, cr, st, dp, sc, rs, mr, rd, pc, rg, ph, pv, wh, wv) w := by
  have f := zq_yp92 (post := post) (w := w) (W := W) (K := K + 1) (T := T) (N := N) (D := D) (L := L) (pg := pg) (cv := cv) (cr := cr) (st := st) (dp := dp) (sc := sc) (rs := rs) (mr := mr) (rd := rd) (pc := pc) (rg := rg) (ph := ph) (pv := pv) (wh := zq_ww W wh 16) (wv := wv) (fun y hy => if_pos hy) (fun k => br_t (nI_le (a := 16) (b := 16) (by omega) (by omega)) ⟨n, h⟩) 16 0 (by omega)
  rw [zq_mv0, zq_mv0] at f
  have e := zq_yp4 (post := post) (w := w) hW (fun n => br_t (nI_le (a := 16) (b := 16) (by omega) (by omega)) (br_f (by rw [ha]; decide) (br_f (fun z => by have z2 := (nI_eq (a := K) (b := 500) (by omega) (by omega)).mp z; omega) (nm_r (nI_1 K) ⟨17, f⟩)))) 16 0 (by omega)
  rw [zq_ww0] at e
  exact ⟨17, e⟩
end
end
section
-- whether a thread's read set meets the set
def zq_hit (W : Nat → Bool) (r : Int32) : Bool := zq_any (fun x => W x && bt r x) 16
theorem zq_hit_x {W : Nat → Bool} {c r : Int32} (hc : ∀ y, y < 32 → bt c y = W y) (hW : ∀ y, W y = true → y < 16) : (r &&& c) = 0 ↔ zq_hit W r = false := by
  rw [zq_and0, zq_hit, zq_any_iff]
  constructor
  · intro h y hy
    have e := h y (by omega)
    rw [hc y (by omega), Bool.and_comm] at e
    exact e
  · intro h y hy
    rw [hc y hy]
    by_cases g : W y = true
    · have e := h y (hW y g)
      rw [Bool.and_comm]
      exact e
    · rw [Bool.not_eq_true] at g
      rw [g, Bool.and_false]
section
variable {T N D L K : Nat} {co ca cb cc cv cr sg st dp sc rs rm mr pc sw rg sv pg rd ph pv wh wv : Nat → Int32}
-- X: one thread's turn
theorem zq_xn_end {post : SX → Prop} {w c : Int32} {n i : Nat} (hi : T ≤ i) (h4 : i ≤ 4) (h : post (nI T, nI N, nI D, nI L, nI K, co, ca, cb, cc, cv, cr, sg, st, dp, sc, rs, rm, mr, pc, sw, rg, sv)) : wX_notifyReaders_2 post w c (n + 1) (nI i) (nI T) (nI N) (nI D) (nI L) (nI K) co ca cb cc cv cr sg st dp sc rs rm mr pc sw rg sv :=
  br_t (nI_le hi (by omega)) h
theorem zq_xn_skip {post : SX → Prop} {w c : Int32} {n i : Nat} (hi : i < T) (hT : T ≤ 4) (hs : nI i = w ∨ (rm i &&& c) = 0 ∨ (¬ st i = 3 ∧ ¬ st i = 2)) (h : wX_notifyReaders_2 post w c n (nI (i+1)) (nI T) (nI N) (nI D) (nI L) (nI K) co ca cb cc cv cr sg st dp sc rs rm mr pc sw rg sv) : wX_notifyReaders_2 post w c (n + 1) (nI i) (nI T) (nI N) (nI D) (nI L) (nI K) co ca cb cc cv cr sg st dp sc rs rm mr pc sw rg sv := by
  have er : rm (nI i).toNatClampNeg = rm i := zq_rd i rfl rfl
  have es : st (nI i).toNatClampNeg = st i := zq_rd i rfl rfl
  refine br_f (nI_ge hi (by omega)) ?_
  by_cases a : nI i = w
  · exact br_t a (nm_r (nI_1 i) h)
  · refine br_f a ?_
    refine zq_in i rfl ?_
    by_cases b : (rm i &&& c) = 0
    · exact br_t (by rw [er]; exact b) (nm_r (nI_1 i) h)
    · refine br_f (by rw [er]; exact b) ?_
      refine zq_in i rfl ?_
      have g := (hs.resolve_left a).resolve_left b
      refine br_f (by rw [es]; exact g.1) ?_
      refine zq_in i rfl ?_
      exact br_f (by rw [es]; exact g.2) (nm_r (nI_1 i) h)
theorem zq_xn_mark {post : SX → Prop} {w c : Int32} {n i : Nat} (hi : i < T) (hT : T ≤ 4) (h1 : ¬ nI i = w) (h2 : ¬ (rm i &&& c) = 0) (h3 : st i = 2) (h : wX_notifyReaders_2 post w c n (nI (i+1)) (nI T) (nI N) (nI D) (nI L) (nI K) co ca cb cc cv cr sg st dp sc rs rm (upd mr i 1) pc sw rg sv) : wX_notifyReaders_2 post w c (n + 1) (nI i) (nI T) (nI N) (nI D) (nI L) (nI K) co ca cb cc cv cr sg st dp sc rs rm mr pc sw rg sv := by
  have er : rm (nI i).toNatClampNeg = rm i := zq_rd i rfl rfl
  have es : st (nI i).toNatClampNeg = st i := zq_rd i rfl rfl
  refine br_f (nI_ge hi (by omega)) ?_
  refine br_f h1 ?_
  refine zq_in i rfl ?_
  refine br_f (by rw [er]; exact h2) ?_
  refine zq_in i rfl ?_
  refine br_f (by rw [es, h3]; decide) ?_
  refine zq_in i rfl ?_
  refine br_t (by rw [es, h3]) ?_
  refine zq_st i 1 rfl zq_n1 ?_
  exact nm_r (nI_1 i) h
theorem zq_xn_re {post : SX → Prop} {w c : Int32} {n i : Nat} (hi : i < T) (hT : T ≤ 4) (h1 : ¬ nI i = w) (h2 : ¬ (rm i &&& c) = 0) (h3 : st i = 3) (h : wX_notifyReaders_2 post w c n (nI (i+1)) (nI T) (nI N) (nI D) (nI L) (nI K) co ca cb cc cv cr sg (upd st i 2) (upd dp i 0) (upd sc i 0) (zq_inc rs i) (upd rm i 0) (upd mr i 0) (upd pc (i*5+1) (pc (i*5))) (upd sw (i*5+1) 0) (zq_cp 4 rg (i*5) (i*5+1) 4) sv) : wX_notifyReaders_2 post w c (n + 1) (nI i) (nI T) (nI N) (nI D) (nI L) (nI K) co ca cb cc cv cr sg st dp sc rs rm mr pc sw rg sv := by
  have er : rm (nI i).toNatClampNeg = rm i := zq_rd i rfl rfl
  have es : st (nI i).toNatClampNeg = st i := zq_rd i rfl rfl
  refine br_f (nI_ge hi (by omega)) ?_
  refine br_f h1 ?_
  refine zq_in i rfl ?_
  refine br_f (by rw [er]; exact h2) ?_
  refine zq_in i rfl ?_
  refine br_t (by rw [es, h3]) ?_
  refine zq_xrestart (by omega) ?_
  exact nm_r (nI_1 i) h
-- Y: one thread's turn
theorem zq_y148 {post : Int32 → SY → Prop} {J : Int32 → Int32 → Int32 → Int32 → Int32 → Int32 → (Nat → Int32) → (Nat → Int32) → (Nat → Int32) → (Nat → Int32) → (Nat → Int32) → (Nat → Int32) → (Nat → Int32) → (Nat → Int32) → (Nat → Int32) → (Nat → Int32) → (Nat → Int32) → (Nat → Int32) → (Nat → Int32) → (Nat → Int32) → (Nat → Int32) → Prop} {w r : Int32} {u : Nat} {W : Nat → Bool} (hu : u < 4) (hwh : ∀ x, x < 16 → wh x = zq_bz (W x)) (hrd : ∀ x, x < 16 → rd (u*16+x) = zq_bz (bt r x)) (hE : ∀ n, wY_publish_148 post J w (nI u) (nI T) (nI N) (nI D) (nI L) (nI K) pg cv cr st dp sc rs mr rd pc rg ph pv wh wv (n + 1) (zq_bz (zq_hit W r)) (nI 16)) : ∀ d j : Nat, j + d = 16 → wY_publish_148 post J w (nI u) (nI T) (nI N) (nI D) (nI L) (nI K) pg cv cr st dp sc rs mr rd pc rg ph pv wh wv (d + 1) (zq_bz (zq_any (fun x => W x && bt r x) j)) (nI j) := by
  intro d
  induction d with
  | zero =>
    intro j hj
    obtain rfl : j = 16 := by omega
    exact hE 0
  | succ d ih =>
    intro j hj
    have ih' := ih (j + 1) (by omega)
    have ew : wh (nI j).toNatClampNeg = zq_bz (W j) := zq_rd j rfl (hwh j (by omega))
    have er : rd (nI u * 16 + nI j).toNatClampNeg = zq_bz (bt r j) := zq_rd (u*16+j) (zq_16a u j) (hrd j (by omega))
    refine br_f (nI_ge (b := 16) (by omega) (by omega)) ?_
    refine zq_in j rfl ?_
    cases a : W j
    · rw [a] at ew
      rw [zq_any_f (by rw [a, Bool.false_and])] at ih'
      exact br_t ew (nm_r (nI_1 j) ih')
    · rw [a] at ew
      refine br_f (by rw [ew]; decide) ?_
      refine zq_in (u*16+j) (zq_16a u j) ?_
      cases b : bt r j
      · rw [b] at er
        rw [zq_any_f (by rw [b, Bool.and_false])] at ih'
        exact br_t er (nm_r (nI_1 j) ih')
      · rw [b] at er
        rw [zq_any_t (by rw [a, b]; rfl)] at ih'
        exact br_f (by rw [er]; decide) (nm_r (nI_1 j) ih')
theorem zq_yn_end {post : Int32 → SY → Prop} {w : Int32} {n : Nat} (h : post 1 (nI T, nI N, nI D, nI L, nI K, pg, cv, cr, st, dp, sc, rs, mr, rd, pc, rg, ph, pv, wh, wv)) : wY_publish_137 post w (n + 1) (nI 4) (nI T) (nI N) (nI D) (nI L) (nI K) pg cv cr st dp sc rs mr rd pc rg ph pv wh wv :=
  br_t (nI_le (a := 4) (b := 4) (by omega) (by omega)) h
theorem zq_yn {post : Int32 → SY → Prop} {w r : Int32} {n i : Nat} {W : Nat → Bool} (hi : i < 4) (hwh : ∀ x, x < 16 → wh x = zq_bz (W x)) (hrd : ∀ x, x < 16 → rd (i*16+x) = zq_bz (bt r x)) (hE : ∀ k, wY_publish_148 post (wY_publish_137 post w n) w (nI i) (nI T) (nI N) (nI D) (nI L) (nI K) pg cv cr st dp sc rs mr rd pc rg ph pv wh wv (k + 1) (zq_bz (zq_hit W r)) (nI 16)) : wY_publish_137 post w (n + 1) (nI i) (nI T) (nI N) (nI D) (nI L) (nI K) pg cv cr st dp sc rs mr rd pc rg ph pv wh wv := by
  refine br_f (nI_ge (b := 4) (by omega) (by omega)) ?_
  exact ⟨17, zq_y148 hi hwh hrd hE 16 0 rfl⟩
theorem zq_yn_skip {post : Int32 → SY → Prop} {w r : Int32} {n i : Nat} {W : Nat → Bool} (hi : i < 4) (hwh : ∀ x, x < 16 → wh x = zq_bz (W x)) (hrd : ∀ x, x < 16 → rd (i*16+x) = zq_bz (bt r x)) (hs : nI i = w ∨ zq_hit W r = false ∨ (¬ st i = 3 ∧ ¬ st i = 2)) (h : wY_publish_137 post w n (nI (i+1)) (nI T) (nI N) (nI D) (nI L) (nI K) pg cv cr st dp sc rs mr rd pc rg ph pv wh wv) : wY_publish_137 post w (n + 1) (nI i) (nI T) (nI N) (nI D) (nI L) (nI K) pg cv cr st dp sc rs mr rd pc rg ph pv wh wv := by
  refine zq_yn hi hwh hrd (fun k => ?_)
  have es : st (nI i).toNatClampNeg = st i := zq_rd i rfl rfl
  refine br_t (nI_le (a := 16) (b := 16) (by omega) (by omega)) ?_
  cases a : zq_hit W r
  · exact br_t rfl (nm_r (nI_1 i) h)
  · refine br_f (by decide) ?_
    by_cases b : nI i = w
    · exact br_t b (nm_r (nI_1 i) h)
    · refine br_f b ?_
      have g := (hs.resolve_left b).resolve_left (by rw [a]; exact Bool.noConfusion)
      refine zq_in i rfl ?_
      refine br_f (by rw [es]; exact g.1) ?_
      refine zq_in i rfl ?_
      exact br_f (by rw [es]; exact g.2) (nm_r (nI_1 i) h)
theorem zq_yn_mark {post : Int32 → SY → Prop} {w r : Int32} {n i : Nat} {W : Nat → Bool} (hi : i < 4) (hwh : ∀ x, x < 16 → wh x = zq_bz (W x)) (hrd : ∀ x, x < 16 → rd (i*16+x) = zq_bz (bt r x)) (h1 : ¬ nI i = w) (h2 : zq_hit W r = true) (h3 : st i = 2) (h : wY_publish_137 post w n (nI (i+1)) (nI T) (nI N) (nI D) (nI L) (nI K) pg cv cr st dp sc rs (upd mr i 1) rd pc rg ph pv wh wv) : wY_publish_137 post w (n + 1) (nI i) (nI T) (nI N) (nI D) (nI L) (nI K) pg cv cr st dp sc rs mr rd pc rg ph pv wh wv := by
  refine zq_yn hi hwh hrd (fun k => ?_)
  have es : st (nI i).toNatClampNeg = st i := zq_rd i rfl rfl
  refine br_t (nI_le (a := 16) (b := 16) (by omega) (by omega)) ?_
  rw [h2]
  refine br_f (by decide) ?_
  refine br_f h1 ?_
  refine zq_in i rfl ?_
  refine br_f (by rw [es, h3]; decide) ?_
  refine zq_in i rfl ?_
  refine br_t (by rw [es, h3]) ?_
  refine zq_st i 1 rfl zq_n1 ?_
  exact nm_r (nI_1 i) h
theorem zq_yn_re {post : Int32 → SY → Prop} {w r : Int32} {n i : Nat} {W : Nat → Bool} (hi : i < 4) (hwh : ∀ x, x < 16 → wh x = zq_bz (W x)) (hrd : ∀ x, x < 16 → rd (i*16+x) = zq_bz (bt r x)) (hb : ∀ x, x < 16 → ph (i*5*16+x) = 0 ∨ ph (i*5*16+x) = 1) (h1 : ¬ nI i = w) (h2 : zq_hit W r = true) (h3 : st i = 3) (h : wY_publish_137 post w n (nI (i+1)) (nI T) (nI N) (nI D) (nI L) (nI K) pg cv cr (upd st i 2) (upd dp i 0) (upd sc i 0) (zq_inc rs i) (upd mr i 0) (zq_fl rd (i*16) 16) (upd pc (i*5+1) (pc (i*5))) (zq_cp 4 rg (i*5) (i*5+1) 4) (zq_fl (zq_cp 16 ph (i*5) (i*5+1) 16) ((i*5+1)*16) 16) (zq_cp 16 pv (i*5) (i*5+1) 16) wh wv) : wY_publish_137 post w (n + 1) (nI i) (nI T) (nI N) (nI D) (nI L) (nI K) pg cv cr st dp sc rs mr rd pc rg ph pv wh wv := by
  refine zq_yn hi hwh hrd (fun k => ?_)
  have es : st (nI i).toNatClampNeg = st i := zq_rd i rfl rfl
  refine br_t (nI_le (a := 16) (b := 16) (by omega) (by omega)) ?_
  rw [h2]
  refine br_f (by decide) ?_
  refine br_f h1 ?_
  refine zq_in i rfl ?_
  refine br_t (by rw [es, h3]) ?_
  refine zq_yrestart (by omega) hb ?_
  exact nm_r (nI_1 i) h
end
-- what a publisher's own thread keeps
def zq_fr (w : Int32) (st st' dp dp' sc sc' pc pc' : Nat → Int32) : Prop := ∀ p, p < 4 → nI p = w → st' p = st p ∧ dp' p = dp p ∧ sc' p = sc p ∧ (∀ s, p * 5 ≤ s → s < p * 5 + 5 → pc' s = pc s)
theorem zq_fr_rf {w : Int32} {st dp sc pc : Nat → Int32} : zq_fr w st st dp dp sc sc pc pc := fun _ _ _ => ⟨rfl, rfl, rfl, fun _ _ _ => rfl⟩
theorem zq_fr_tr {w : Int32} {st st' st'' dp dp' dp'' sc sc' sc'' pc pc' pc'' : Nat → Int32} (h : zq_fr w st st' dp dp' sc sc' pc pc') (h' : zq_fr w st' st'' dp' dp'' sc' sc'' pc' pc'') : zq_fr w st st'' dp dp'' sc sc'' pc pc'' := fun p hp e =>
  ⟨(h' p hp e).1.trans (h p hp e).1, (h' p hp e).2.1.trans (h p hp e).2.1, (h' p hp e).2.2.1.trans (h p hp e).2.2.1, fun s a b => ((h' p hp e).2.2.2 s a b).trans ((h p hp e).2.2.2 s a b)⟩
theorem zq_fr_u {w : Int32} {st dp sc pc : Nat → Int32} {i : Nat} {a b c d : Int32} (hi : i < 4) (h : ¬ nI i = w) : zq_fr w st (upd st i a) dp (upd dp i b) sc (upd sc i c) pc (upd pc (i*5+1) d) := by
  intro p hp e
  have hne : p ≠ i := by
    intro z
    rw [z] at e
    exact h e
  exact ⟨pk_un hne, pk_un hne, pk_un hne, fun s h1 h2 => pk_un (by omega)⟩
section
variable {T N D L K : Nat} {co ca cb cc cv cr sg st dp sc rs rm mr pc sw rg sv pg rd ph pv wh wv : Nat → Int32}
-- Y alone: the threads that don't exist
theorem zq_ytail {w : Int32} {W : Nat → Bool} (hR : zq_RL T N D L K co ca cb cc st dp sc rm mr pc sw sv pg rd ph pv) (hwh : ∀ x, x < 16 → wh x = zq_bz (W x)) {post : Int32 → SY → Prop} (h : post 1 (nI T, nI N, nI D, nI L, nI K, pg, cv, cr, st, dp, sc, rs, mr, rd, pc, rg, ph, pv, wh, wv)) : ∀ k i : Nat, i + k = 4 → T ≤ i → ∀ n, k < n → wY_publish_137 post w n (nI i) (nI T) (nI N) (nI D) (nI L) (nI K) pg cv cr st dp sc rs mr rd pc rg ph pv wh wv := by
  intro k
  induction k with
  | zero =>
    intro i hi hT n hn
    obtain rfl : i = 4 := by omega
    obtain ⟨m, rfl⟩ : ∃ m, n = m + 1 := ⟨n - 1, by omega⟩
    exact zq_yn_end h
  | succ k ih =>
    intro i hi hT n hn
    obtain ⟨m, rfl⟩ : ∃ m, n = m + 1 := ⟨n - 1, by omega⟩
    have e : st i = 0 := (hR.2.2.1 i (by omega)).1 hT
    exact zq_yn_skip (r := rm i) (by omega) hwh (hR.2.2.2.1 i (by omega)) (Or.inr (Or.inr ⟨by rw [e]; decide, by rw [e]; decide⟩)) (ih (i+1) (by omega) (by omega) m (by omega))
end
abbrev zq_NP (T N D L K : Nat) (w c : Int32) (k i : Nat) (co ca cb cc cv cr sg st dp sc rs rm mr pc sw rg sv pg rd ph pv wh wv : Nat → Int32) : Prop := ∃ st' dp' sc' rs' rm' mr' pc' sw' rg' rd' ph' pv' : Nat → Int32, zq_RL T N D L K co ca cb cc st' dp' sc' rm' mr' pc' sw' sv pg rd' ph' pv' ∧ zq_fr w st st' dp dp' sc sc' pc pc' ∧ (∀ (post : SX → Prop) (n : Nat), k < n → post (nI T, nI N, nI D, nI L, nI K, co, ca, cb, cc, cv, cr, sg, st', dp', sc', rs', rm', mr', pc', sw', rg', sv) → wX_notifyReaders_2 post w c n (nI i) (nI T) (nI N) (nI D) (nI L) (nI K) co ca cb cc cv cr sg st dp sc rs rm mr pc sw rg sv) ∧ (∀ (post : Int32 → SY → Prop) (n : Nat), k < n → post 1 (nI T, nI N, nI D, nI L, nI K, pg, cv, cr, st', dp', sc', rs', mr', rd', pc', rg', ph', pv', wh, wv) → wY_publish_137 post w n (nI i) (nI T) (nI N) (nI D) (nI L) (nI K) pg cv cr st dp sc rs mr rd pc rg ph pv wh wv)
theorem zq_not {T N D L K : Nat} {co ca cb cc cv cr sg sv pg wh wv : Nat → Int32} {w c : Int32} {W : Nat → Bool} (hc : ∀ y, y < 32 → bt c y = W y) (hW : ∀ y, W y = true → y < 16) (hwh : ∀ x, x < 16 → wh x = zq_bz (W x)) : ∀ k i : Nat, i + k = 4 → ∀ st dp sc rs rm mr pc sw rg rd ph pv : Nat → Int32, zq_RL T N D L K co ca cb cc st dp sc rm mr pc sw sv pg rd ph pv → zq_NP T N D L K w c k i co ca cb cc cv cr sg st dp sc rs rm mr pc sw rg sv pg rd ph pv wh wv := by
  intro k
  induction k with
  | zero =>
    intro i hi st dp sc rs rm mr pc sw rg rd ph pv hR
    obtain rfl : i = 4 := by omega
    refine ⟨st, dp, sc, rs, rm, mr, pc, sw, rg, rd, ph, pv, hR, zq_fr_rf, fun post n hn hp => ?_, fun post n hn hp => ?_⟩
    · obtain ⟨m, rfl⟩ : ∃ m, n = m + 1 := ⟨n - 1, by omega⟩
      exact zq_xn_end hR.1.1 (by omega) hp
    · obtain ⟨m, rfl⟩ : ∃ m, n = m + 1 := ⟨n - 1, by omega⟩
      exact zq_yn_end hp
  | succ k ih =>
    intro i hi st dp sc rs rm mr pc sw rg rd ph pv hR
    have hT4 : T ≤ 4 := hR.1.1
    have hrd := hR.2.2.2.1 i (by omega)
    by_cases hT : i < T
    · by_cases hs : nI i = w ∨ zq_hit W (rm i) = false ∨ (¬ st i = 3 ∧ ¬ st i = 2)
      · obtain ⟨st', dp', sc', rs', rm', mr', pc', sw', rg', rd', ph', pv', hR', hF, hX, hY⟩ := ih (i+1) (by omega) st dp sc rs rm mr pc sw rg rd ph pv hR
        refine ⟨st', dp', sc', rs', rm', mr', pc', sw', rg', rd', ph', pv', hR', hF, fun post n hn hp => ?_, fun post n hn hp => ?_⟩
        · obtain ⟨m, rfl⟩ : ∃ m, n = m + 1 := ⟨n - 1, by omega⟩
          exact zq_xn_skip hT hT4 (by rw [zq_hit_x hc hW]; exact hs) (hX post m (by omega) hp)
        · obtain ⟨m, rfl⟩ : ∃ m, n = m + 1 := ⟨n - 1, by omega⟩
          exact zq_yn_skip (by omega) hwh hrd hs (hY post m (by omega) hp)
      · have h1 : ¬ nI i = w := fun z => hs (Or.inl z)
        have h2 : zq_hit W (rm i) = true := by
          cases g : zq_hit W (rm i)
          · exact absurd (Or.inr (Or.inl g)) hs
          · rfl
        have h2x : ¬ (rm i &&& c) = 0 := by
          rw [zq_hit_x hc hW, h2]
          exact Bool.noConfusion
        by_cases h3 : st i = 3
        · have hP : zq_P (upd pc (i*5+1) (pc (i*5))) := zq_P_u hR.2.2.2.2.1 _ (hR.2.2.2.2.1 _ (by omega))
          obtain ⟨st', dp', sc', rs', rm', mr', pc', sw', rg', rd', ph', pv', hR', hF, hX, hY⟩ := ih (i+1) (by omega) _ _ _ (zq_inc rs i) _ _ _ _ (zq_cp 4 rg (i*5) (i*5+1) 4) _ _ _ (zq_RL_clean hR hT (i*5) 2 hP)
          refine ⟨st', dp', sc', rs', rm', mr', pc', sw', rg', rd', ph', pv', hR', zq_fr_tr (zq_fr_u (by omega) h1) hF, fun post n hn hp => ?_, fun post n hn hp => ?_⟩
          · obtain ⟨m, rfl⟩ : ∃ m, n = m + 1 := ⟨n - 1, by omega⟩
            exact zq_xn_re hT hT4 h1 h2x h3 (hX post m (by omega) hp)
          · obtain ⟨m, rfl⟩ : ∃ m, n = m + 1 := ⟨n - 1, by omega⟩
            exact zq_yn_re (by omega) hwh hrd (zq_S01 hR.2.2.2.2.2.1 (by omega)) h1 h2 h3 (hY post m (by omega) hp)
        · have h4 : st i = 2 := by
            by_cases g : st i = 2
            · exact g
            · exact absurd (Or.inr (Or.inr ⟨h3, g⟩)) hs
          obtain ⟨hB, hC, hTT, hRd, hP, hS, hO⟩ := hR
          have hti := hTT i (by omega)
          have hR2 : zq_RL T N D L K co ca cb cc st dp sc rm (upd mr i 1) pc sw sv pg rd ph pv := ⟨hB, hC, zq_T_mk hTT (fun _ => ⟨hti.1, hti.2.1, hti.2.2.1, Or.inr rfl, fun z => absurd h4 z, hti.2.2.2.2.2⟩), hRd, hP, hS, hO⟩
          obtain ⟨st', dp', sc', rs', rm', mr', pc', sw', rg', rd', ph', pv', hR', hF, hX, hY⟩ := ih (i+1) (by omega) _ _ _ rs _ _ _ _ rg _ _ _ hR2
          refine ⟨st', dp', sc', rs', rm', mr', pc', sw', rg', rd', ph', pv', hR', hF, fun post n hn hp => ?_, fun post n hn hp => ?_⟩
          · obtain ⟨m, rfl⟩ : ∃ m, n = m + 1 := ⟨n - 1, by omega⟩
            exact zq_xn_mark hT hT4 h1 h2x h4 (hX post m (by omega) hp)
          · obtain ⟨m, rfl⟩ : ∃ m, n = m + 1 := ⟨n - 1, by omega⟩
            exact zq_yn_mark (by omega) hwh hrd h1 h2 h4 (hY post m (by omega) hp)
    · refine ⟨st, dp, sc, rs, rm, mr, pc, sw, rg, rd, ph, pv, hR, zq_fr_rf, fun post n hn hp => ?_, fun post n hn hp => ?_⟩
      · obtain ⟨m, rfl⟩ : ∃ m, n = m + 1 := ⟨n - 1, by omega⟩
        exact zq_xn_end (by omega) (by omega) hp
      · exact zq_ytail hR hwh hp (k + 1) i hi (by omega) n hn
section
variable {T N D L K : Nat} {co ca cb cc cv cr sg st dp sc rs rm mr pc sw rg sv pg rd ph pv wh wv : Nat → Int32}
-- publishing, both sides at once
theorem zq_pub (hR : zq_RL T N D L K co ca cb cc st dp sc rm mr pc sw sv pg rd ph pv) (w : Int32) {m : Int32} (hm : ∀ y, y < 16 → wh y = zq_bz (bt m y)) (hv : ∀ y, y < 16 → bt m y = true → y < N ∧ sg y = wv y) : ∃ (r : Int32) (K' : Nat) (cv' cr' st' dp' sc' rs' rm' mr' pc' sw' rg' rd' ph' pv' wh' : Nat → Int32), zq_RL T N D L K' co ca cb cc st' dp' sc' rm' mr' pc' sw' sv pg rd' ph' pv' ∧ (r = 0 ∨ r = 1) ∧ zq_fr w st st' dp dp' sc sc' pc pc' ∧ (∀ post : Int32 → SX → Prop, post r (nI T, nI N, nI D, nI L, nI K', co, ca, cb, cc, cv', cr', sg, st', dp', sc', rs', rm', mr', pc', sw', rg', sv) → wpX_publish post (nI T, nI N, nI D, nI L, nI K, co, ca, cb, cc, cv, cr, sg, st, dp, sc, rs, rm, mr, pc, sw, rg, sv) w m) ∧ (∀ post : Int32 → SY → Prop, post r (nI T, nI N, nI D, nI L, nI K', pg, cv', cr', st', dp', sc', rs', mr', rd', pc', rg', ph', pv', wh', wv) → wpY_publish post (nI T, nI N, nI D, nI L, nI K, pg, cv, cr, st, dp, sc, rs, mr, rd, pc, rg, ph, pv, wh, wv) w) := by
  have hN : N ≤ 16 := hR.1.2.1
  have hK : K ≤ 500 := hR.1.2.2.2.2
  have hWN : ∀ y, zq_W N m cv sg y = true → y < N ∧ y < 16 ∧ sg y = wv y := by
    intro y h
    unfold zq_W at h
    rw [Bool.and_eq_true, Bool.and_eq_true, decide_eq_true_eq] at h
    exact ⟨h.1, by omega, (hv y (by omega) h.2.1).2⟩
  have hWY : ∀ y, y < 16 → zq_W N m cv sg y = (decide (¬ wh y = 0) && decide (¬ wv y = cv y)) := by
    intro y hy
    unfold zq_W
    rw [hm y hy]
    cases e : bt m y
    · rw [Bool.false_and, Bool.and_false]
      rfl
    · rw [decide_eq_true (hv y hy e).1, (hv y hy e).2, Bool.true_and, Bool.true_and, show decide (¬ zq_bz true = 0) = true from by decide, Bool.true_and]
      exact decide_eq_decide.mpr ⟨fun a b => a b.symm, fun a b => a b.symm⟩
  have hcb : ∀ y, y < 32 → bt (zq_cm (zq_W N m cv sg) N) y = zq_W N m cv sg y := by
    intro y hy
    rw [zq_cmb _ N (by omega)]
    by_cases g : y < N
    · rw [decide_eq_true g, Bool.true_and]
    · rw [decide_eq_false g, Bool.false_and]
      unfold zq_W
      rw [decide_eq_false g, Bool.false_and]
  have hc0 : zq_cm (zq_W N m cv sg) N = 0 ↔ zq_any (zq_W N m cv sg) 16 = false := by
    rw [zq_z0, zq_any_iff]
    constructor
    · intro h y hy
      rw [← hcb y (by omega)]
      exact h y (by omega)
    · intro h y hy
      rw [hcb y hy]
      cases e : zq_W N m cv sg y
      · rfl
      · rw [← e]
        exact h y (hWN y e).2.1
  cases ha : zq_any (zq_W N m cv sg) 16
  · exact ⟨1, K, cv, cr, st, dp, sc, rs, rm, mr, pc, sw, rg, rd, ph, pv, zq_ww (zq_W N m cv sg) wh 16, hR, Or.inr rfl, zq_fr_rf, fun post hp => zq_xp_no hN (hc0.mpr ha) hp, fun post hp => zq_yp_no hWY ha hp⟩
  · have hcn : ¬ zq_cm (zq_W N m cv sg) N = 0 := fun z => by
      rw [hc0.mp z] at ha
      exact Bool.noConfusion ha
    by_cases hk : K = 500
    · exact ⟨0, K, cv, cr, st, dp, sc, rs, rm, mr, pc, sw, rg, rd, ph, pv, zq_ww (zq_W N m cv sg) wh 16, hR, Or.inl rfl, zq_fr_rf, fun post hp => zq_xp_full hN hcn hk hp, fun post hp => zq_yp_full hWY ha hk hp⟩
    · have hR1 : zq_RL T N D L (K+1) co ca cb cc st dp sc rm mr pc sw sv pg rd ph pv := ⟨⟨hR.1.1, hR.1.2.1, hR.1.2.2.1, hR.1.2.2.2.1, by omega⟩, hR.2⟩
      obtain ⟨st', dp', sc', rs', rm', mr', pc', sw', rg', rd', ph', pv', hR', hF, hX, hY⟩ := zq_not (w := w) (cv := zq_mv (zq_W N m cv sg) sg cv N) (cr := zq_mv (zq_W N m cv sg) (fun _ => nI (K+1)) cr N) (sg := sg) (wh := zq_ww (zq_W N m cv sg) wh 16) (wv := wv) hcb (fun y h => (hWN y h).2.1) (fun y hy => if_pos hy) 4 0 rfl st dp sc rs rm mr pc sw rg rd ph pv hR1
      refine ⟨1, K+1, zq_mv (zq_W N m cv sg) sg cv N, zq_mv (zq_W N m cv sg) (fun _ => nI (K+1)) cr N, st', dp', sc', rs', rm', mr', pc', sw', rg', rd', ph', pv', zq_ww (zq_W N m cv sg) wh 16, hR', Or.inr rfl, hF, fun post hp => ?_, fun post hp => ?_⟩
      · exact zq_xp_go hN hcn (by omega) (fun Q hQ => ⟨5, hX Q 5 (by omega) hQ⟩) hp
      · refine zq_yp_go (n := 5) hWY ha (by omega) ?_
        rw [← zq_mv_eq (s := sg) (n := N) hWN, ← zq_mv_eq (W := zq_W N m cv sg) (s := fun _ => nI (K+1)) (s' := fun _ => nI (K+1)) (a := cr) (n := N) (n' := 16) (fun y h => ⟨(hWN y h).1, (hWN y h).2.1, rfl⟩)]
        exact hY post 5 (by omega) hp
end
end
section
theorem zq_41 (i : Nat) : nI i * 4 + 1 = nI (i * 4 + 1) := by rw [zq_4, nI_1]
theorem zq_42 (i : Nat) : nI i * 4 + 2 = nI (i * 4 + 2) := zq_4a i 2
theorem zq_43 (i : Nat) : nI i * 4 + 3 = nI (i * 4 + 3) := zq_4a i 3
section
variable {T N D L K : Nat} {co ca cb cc cv cr sg st dp sc rs rm mr pc sw rg sv pg rd ph pv wh wv : Nat → Int32}
-- X: a computed register
theorem zq_x123 {post : Int32 → SX → Prop} {s i a : Nat} {v : Int32} (hs : s < 20) (hi : i < 64) (ha4 : a < 4) (ha : ca i = nI a) (hp : pc s = nI i) (h : post 1 (nI T, nI N, nI D, nI L, nI K, co, ca, cb, cc, cv, cr, sg, st, dp, sc, rs, rm, mr, upd pc s (nI (i+1)), sw, upd rg (s*4+a) v, sv)) : wX_doCompute_123 post (nI i) (nI s) v (nI T) (nI N) (nI D) (nI L) (nI K) co ca cb cc cv cr sg st dp sc rs rm mr pc sw rg sv := by
  refine zq_in i rfl ?_
  refine zq_xset (r := a) hs ha4 (by rw [zq_rd (a := ca) i rfl ha]; exact zq_3m ha4) ?_
  refine zq_in s rfl ?_
  exact zq_st s (nI (i+1)) rfl (by rw [zq_rd (a := pc) s rfl hp, nI_1]) h
theorem zq_xcomp {post : Int32 → SX → Prop} {t d i jb jc : Nat} (ht : t < 4) (hd : dp t = nI d) (hd3 : d ≤ 3) (hi : i < 64) (hb : cb i &&& 3 = nI jb) (hb4 : jb < 4) (hc : cc i &&& 3 = nI jc) (hc4 : jc < 4) (k : Int32) (hk : co i = k)
  (h1 : k < 2 → wX_doCompute_123 post (nI i) (nI (t*5+1+d)) (cc i) (nI T) (nI N) (nI D) (nI L) (nI K) co ca cb cc cv cr sg st dp sc rs rm mr pc sw rg sv)
  (h2 : k = 2 → wX_doCompute_123 post (nI i) (nI (t*5+1+d)) (rg ((t*5+1+d)*4+jb) + rg ((t*5+1+d)*4+jc)) (nI T) (nI N) (nI D) (nI L) (nI K) co ca cb cc cv cr sg st dp sc rs rm mr pc sw rg sv)
  (h3 : k = 3 → wX_doCompute_123 post (nI i) (nI (t*5+1+d)) (rg ((t*5+1+d)*4+jb) - rg ((t*5+1+d)*4+jc)) (nI T) (nI N) (nI D) (nI L) (nI K) co ca cb cc cv cr sg st dp sc rs rm mr pc sw rg sv)
  (h4 : k = 4 → wX_doCompute_123 post (nI i) (nI (t*5+1+d)) (rg ((t*5+1+d)*4+jb) * rg ((t*5+1+d)*4+jc)) (nI T) (nI N) (nI D) (nI L) (nI K) co ca cb cc cv cr sg st dp sc rs rm mr pc sw rg sv)
  (h5 : k = 5 → rg ((t*5+1+d)*4+jc) ≤ rg ((t*5+1+d)*4+jb) → wX_doCompute_123 post (nI i) (nI (t*5+1+d)) 0 (nI T) (nI N) (nI D) (nI L) (nI K) co ca cb cc cv cr sg st dp sc rs rm mr pc sw rg sv)
  (h6 : k = 5 → ¬ rg ((t*5+1+d)*4+jc) ≤ rg ((t*5+1+d)*4+jb) → wX_doCompute_123 post (nI i) (nI (t*5+1+d)) 1 (nI T) (nI N) (nI D) (nI L) (nI K) co ca cb cc cv cr sg st dp sc rs rm mr pc sw rg sv)
  (h7 : ¬ 5 < k) : wpX_doCompute post (nI T, nI N, nI D, nI L, nI K, co, ca, cb, cc, cv, cr, sg, st, dp, sc, rs, rm, mr, pc, sw, rg, sv) (nI t) (nI i) := by
  unfold wpX_doCompute
  refine zq_xtop ht hd ?_
  refine zq_in i rfl ?_
  refine zq_xget (r := jb) (by omega) hb4 (by rw [zq_rd (a := cb) i rfl rfl]; exact hb) ?_
  refine zq_in i rfl ?_
  refine zq_xget (r := jc) (by omega) hc4 (by rw [zq_rd (a := cc) i rfl rfl]; exact hc) ?_
  refine zq_in i rfl ?_
  refine zq_nm i k rfl hk ?_
  refine br_c (fun z => zq_in i rfl (zq_nm i (cc i) rfl rfl (h1 z))) (fun _ => ?_)
  refine br_f h7 ?_
  refine br_c (fun z => nm_e (h2 z)) (fun _ => ?_)
  refine br_c (fun z => nm_e (h3 z)) (fun _ => ?_)
  refine br_c (fun z => nm_e (h4 z)) (fun _ => ?_)
  refine br_c (fun z => br_c (fun z2 => h5 z z2) (fun z2 => h6 z z2)) (fun _ => trivial)
-- Y: executePlain behind its reads
theorem zq_yplain {post : Int32 → SY → Prop} {t d i : Nat} (ht : t < 4) (hd : dp t = nI d) (hd3 : d ≤ 3) (hi : i < 64) (g0 : pg (i*4) = co i) (g1 : pg (i*4+1) = ca i) (g2 : pg (i*4+2) = cb i) (g3 : pg (i*4+3) = cc i)
  (h0 : ¬ co i = 0)
  (h1 : co i = 1 → vp_in (nI ((t*5+1+d)*4) + ca i) 80 ∧ ∀ rg' : Nat → Int32, rg' = upd rg (nI ((t*5+1+d)*4) + ca i).toNatClampNeg (cc i) → post 1 (nI T, nI N, nI D, nI L, nI K, pg, cv, cr, st, dp, sc, rs, mr, rd, upd pc (t*5+1+d) (nI (i+1)), rg', ph, pv, wh, wv))
  (h2 : co i = 2 → vp_in (nI ((t*5+1+d)*4) + cb i) 80 ∧ vp_in (nI ((t*5+1+d)*4) + cc i) 80 ∧ vp_in (nI ((t*5+1+d)*4) + ca i) 80 ∧ ∀ rg' : Nat → Int32, rg' = upd rg (nI ((t*5+1+d)*4) + ca i).toNatClampNeg (rg (nI ((t*5+1+d)*4) + cb i).toNatClampNeg + rg (nI ((t*5+1+d)*4) + cc i).toNatClampNeg) → post 1 (nI T, nI N, nI D, nI L, nI K, pg, cv, cr, st, dp, sc, rs, mr, rd, upd pc (t*5+1+d) (nI (i+1)), rg', ph, pv, wh, wv))
  (h3 : co i = 3 → vp_in (nI ((t*5+1+d)*4) + cb i) 80 ∧ vp_in (nI ((t*5+1+d)*4) + cc i) 80 ∧ vp_in (nI ((t*5+1+d)*4) + ca i) 80 ∧ ∀ rg' : Nat → Int32, rg' = upd rg (nI ((t*5+1+d)*4) + ca i).toNatClampNeg (rg (nI ((t*5+1+d)*4) + cb i).toNatClampNeg - rg (nI ((t*5+1+d)*4) + cc i).toNatClampNeg) → post 1 (nI T, nI N, nI D, nI L, nI K, pg, cv, cr, st, dp, sc, rs, mr, rd, upd pc (t*5+1+d) (nI (i+1)), rg', ph, pv, wh, wv))
  (h4 : co i = 4 → vp_in (nI ((t*5+1+d)*4) + cb i) 80 ∧ vp_in (nI ((t*5+1+d)*4) + cc i) 80 ∧ vp_in (nI ((t*5+1+d)*4) + ca i) 80 ∧ ∀ rg' : Nat → Int32, rg' = upd rg (nI ((t*5+1+d)*4) + ca i).toNatClampNeg (rg (nI ((t*5+1+d)*4) + cb i).toNatClampNeg * rg (nI ((t*5+1+d)*4) + cc i).toNatClampNeg) → post 1 (nI T, nI N, nI D, nI L, nI K, pg, cv, cr, st, dp, sc, rs, mr, rd, upd pc (t*5+1+d) (nI (i+1)), rg', ph, pv, wh, wv))
  (h5 : co i = 5 → vp_in (nI ((t*5+1+d)*4) + cb i) 80 ∧ vp_in (nI ((t*5+1+d)*4) + cc i) 80 ∧ ((rg (nI ((t*5+1+d)*4) + cc i).toNatClampNeg ≤ rg (nI ((t*5+1+d)*4) + cb i).toNatClampNeg → vp_in (nI ((t*5+1+d)*4) + ca i) 80 ∧ ∀ rg' : Nat → Int32, rg' = upd rg (nI ((t*5+1+d)*4) + ca i).toNatClampNeg 0 → post 1 (nI T, nI N, nI D, nI L, nI K, pg, cv, cr, st, dp, sc, rs, mr, rd, upd pc (t*5+1+d) (nI (i+1)), rg', ph, pv, wh, wv)) ∧ (¬ rg (nI ((t*5+1+d)*4) + cc i).toNatClampNeg ≤ rg (nI ((t*5+1+d)*4) + cb i).toNatClampNeg → vp_in (nI ((t*5+1+d)*4) + ca i) 80 ∧ ∀ rg' : Nat → Int32, rg' = upd rg (nI ((t*5+1+d)*4) + ca i).toNatClampNeg 1 → post 1 (nI T, nI N, nI D, nI L, nI K, pg, cv, cr, st, dp, sc, rs, mr, rd, upd pc (t*5+1+d) (nI (i+1)), rg', ph, pv, wh, wv))))
  (h6 : co i = 6 → post 1 (nI T, nI N, nI D, nI L, nI K, pg, cv, cr, st, dp, sc, rs, mr, rd, upd pc (t*5+1+d) (cc i), rg, ph, pv, wh, wv))
  (h7 : ¬ co i = 1 → ¬ co i = 2 → ¬ co i = 3 → ¬ co i = 4 → ¬ co i = 5 → ¬ co i = 6 → vp_in (nI ((t*5+1+d)*4) + ca i) 80 ∧ ((rg (nI ((t*5+1+d)*4) + ca i).toNatClampNeg = 0 → post 1 (nI T, nI N, nI D, nI L, nI K, pg, cv, cr, st, dp, sc, rs, mr, rd, upd pc (t*5+1+d) (cc i), rg, ph, pv, wh, wv)) ∧ (¬ rg (nI ((t*5+1+d)*4) + ca i).toNatClampNeg = 0 → post 1 (nI T, nI N, nI D, nI L, nI K, pg, cv, cr, st, dp, sc, rs, mr, rd, upd pc (t*5+1+d) (nI (i+1)), rg, ph, pv, wh, wv)))) : wpY_executePlain post (nI T, nI N, nI D, nI L, nI K, pg, cv, cr, st, dp, sc, rs, mr, rd, pc, rg, ph, pv, wh, wv) (nI t) (nI i) := by
  have hj : ∀ v : Int32, post 1 (nI T, nI N, nI D, nI L, nI K, pg, cv, cr, st, dp, sc, rs, mr, rd, upd pc (t*5+1+d) v, rg, ph, pv, wh, wv) → vp_in (nI (t*5+1+d)) 20 ∧ ∀ pc' : Nat → Int32, pc' = upd (upd pc (t*5+1+d) (nI (i+1))) (nI (t*5+1+d)).toNatClampNeg v → post 1 (nI T, nI N, nI D, nI L, nI K, pg, cv, cr, st, dp, sc, rs, mr, rd, pc', rg, ph, pv, wh, wv) := fun v hv =>
    zq_st (P := fun pc' => post 1 (nI T, nI N, nI D, nI L, nI K, pg, cv, cr, st, dp, sc, rs, mr, rd, pc', rg, ph, pv, wh, wv)) (t*5+1+d) v rfl rfl (by rw [zq_upd2]; exact hv)
  refine zq_in t rfl ?_
  refine nm_r (zq_topY (zq_rd t rfl hd)) ?_
  refine nm_r (zq_4 (t*5+1+d)) ?_
  refine zq_in (i*4) (zq_4 i) ?_
  refine zq_nm (i*4) (co i) (zq_4 i) g0 ?_
  refine zq_in (i*4+1) (zq_41 i) ?_
  refine zq_nm (i*4+1) (ca i) (zq_41 i) g1 ?_
  refine zq_in (i*4+2) (zq_42 i) ?_
  refine zq_nm (i*4+2) (cb i) (zq_42 i) g2 ?_
  refine zq_in (i*4+3) (zq_43 i) ?_
  refine zq_nm (i*4+3) (cc i) (zq_43 i) g3 ?_
  refine br_f h0 ?_
  refine zq_st (t*5+1+d) (nI (i+1)) rfl (nI_1 i) ?_
  refine br_c (fun z => h1 z) (fun z1 => ?_)
  refine br_c (fun z => h2 z) (fun z2 => ?_)
  refine br_c (fun z => h3 z) (fun z3 => ?_)
  refine br_c (fun z => h4 z) (fun z4 => ?_)
  refine br_c (fun z => h5 z) (fun z5 => ?_)
  refine br_c (fun z => hj _ (h6 z)) (fun z6 => ?_)
  have e := h7 z1 z2 z3 z4 z5 z6
  exact ⟨e.1, fun z => hj _ (e.2.1 z), fun z => e.2.2 z⟩
-- op 0
theorem zq_jhalt (hR : zq_RL T N D L K co ca cb cc st dp sc rm mr pc sw sv pg rd ph pv) {t d i : Nat} {b : Int32} (ht : t < T) (hd : dp t = nI d) (hdD : d ≤ D) (hp : pc (t*5+1+d) = nI i) (hi : i < L) (hb : st t = b) (hbb : b = 1 ∨ b = 2) (hmk : mr t = 0) (hq : zq_lt b (sc t)) (hk : co i = nI 0) : zq_J (zq_re co t b) (fun post => wpX_doHalt post (nI T, nI N, nI D, nI L, nI K, co, ca, cb, cc, cv, cr, sg, st, dp, sc, rs, rm, mr, pc, sw, rg, sv) (nI t)) (fun post => wpY_executePlain post (nI T, nI N, nI D, nI L, nI K, pg, cv, cr, st, dp, sc, rs, mr, rd, pc, rg, ph, pv, wh, wv) (nI t) (nI i)) := by
  have hR0 := hR
  obtain ⟨hB, hC, hTT, hRd, hP, hS, hO⟩ := hR0
  have hT4 : T ≤ 4 := hB.1
  have hN : N ≤ 16 := hB.2.1
  have hD3 : D ≤ 3 := hB.2.2.1
  have hL : L ≤ 64 := hB.2.2.2.1
  have ht4 : t < 4 := by omega
  have hd3 : d ≤ 3 := by omega
  have hi64 : i < 64 := by omega
  have tt := hTT t ht4
  obtain ⟨g0, g1, g2, g3, hf⟩ := hC i hi
  have es : st (nI t).toNatClampNeg = b := zq_rd t rfl hb
  have esd : dp (nI t).toNatClampNeg = nI d := zq_rd t rfl hd
  have hpc : pc (nI (t*5+1+d)).toNatClampNeg = nI i := zq_rd (t*5+1+d) rfl hp
  rcases hbb with b1 | b2
  · have n2 : ¬ st t = 2 := by rw [hb, b1]; decide
    have n3 : ¬ st t = 3 := by rw [hb, b1]; decide
    have hq' : zq_lt b (sc t) := hq
    refine ⟨5, (nI T, nI N, nI D, nI L, nI K, co, ca, cb, cc, cv, cr, sg, upd st t 4, dp, sc, rs, rm, mr, pc, sw, rg, sv), (nI T, nI N, nI D, nI L, nI K, pg, cv, cr, upd st t 4, dp, sc, rs, mr, rd, pc, rg, ph, pv, wh, wv), zq_re_mk ⟨hB, hC, zq_T_st hTT (fun _ => ⟨fun z => by omega, tt.2.1, tt.2.2.1, tt.2.2.2.1, fun _ => hmk, fun _ _ => tt.2.2.2.2.2 n2 n3⟩), hRd, hP, hS, hO⟩ hq', fun post h => ?_, fun post h => ?_⟩
    · refine zq_in t rfl ?_
      exact br_f (by rw [es, b1]; decide) (zq_st t 4 rfl rfl h)
    · refine zq_in t rfl ?_
      refine nm_r (zq_topY (zq_rd t rfl hd)) ?_
      refine nm_r (zq_4 (t*5+1+d)) ?_
      refine zq_in (i*4) (zq_4 i) ?_
      refine zq_nm (i*4) 0 (zq_4 i) (g0.trans hk) ?_
      refine zq_in (i*4+1) (zq_41 i) ?_
      refine zq_nm (i*4+1) (ca i) (zq_41 i) g1 ?_
      refine zq_in (i*4+2) (zq_42 i) ?_
      refine zq_nm (i*4+2) (cb i) (zq_42 i) g2 ?_
      refine zq_in (i*4+3) (zq_43 i) ?_
      refine zq_nm (i*4+3) (cc i) (zq_43 i) g3 ?_
      refine br_t rfl ?_
      refine zq_yib ht4 (fun z => absurd z (fun y => y.elim n2 n3)) (fun _ _ => ?_)
      exact br_t rfl (zq_st t 4 rfl rfl h)
  · obtain ⟨u, v, hre, hX, hY⟩ := zq_jfail (cv := cv) (cr := cr) (sg := sg) (rs := rs) (rg := rg) (wh := wh) (wv := wv) hR ht b 7
    refine ⟨6, u, v, hre, fun post h => ?_, fun post h => ?_⟩
    · refine zq_in t rfl ?_
      exact br_t (by rw [es, b2]) (hX _ (zq_xe h))
    · refine zq_in t rfl ?_
      refine nm_r (zq_topY (zq_rd t rfl hd)) ?_
      refine nm_r (zq_4 (t*5+1+d)) ?_
      refine zq_in (i*4) (zq_4 i) ?_
      refine zq_nm (i*4) 0 (zq_4 i) (g0.trans hk) ?_
      refine zq_in (i*4+1) (zq_41 i) ?_
      refine zq_nm (i*4+1) (ca i) (zq_41 i) g1 ?_
      refine zq_in (i*4+2) (zq_42 i) ?_
      refine zq_nm (i*4+2) (cb i) (zq_42 i) g2 ?_
      refine zq_in (i*4+3) (zq_43 i) ?_
      refine zq_nm (i*4+3) (cc i) (zq_43 i) g3 ?_
      refine br_t rfl ?_
      refine zq_yib ht4 (fun _ => ?_) (fun z _ => absurd (hb.trans b2) z)
      exact br_f (by decide) (hY _ (zq_ye h))
-- ops 1 to 5
theorem zq_jcomp (hR : zq_RL T N D L K co ca cb cc st dp sc rm mr pc sw sv pg rd ph pv) {t d i : Nat} {b : Int32} (ht : t < T) (hd : dp t = nI d) (hdD : d ≤ D) (hp : pc (t*5+1+d) = nI i) (hi : i < L) (hb : st t = b) (hbb : b = 1 ∨ b = 2) (hmk : mr t = 0) (hq : zq_lt b (sc t)) {k : Nat} (hk : co i = nI k) (hkk : k = 1 ∨ k = 2 ∨ k = 3 ∨ k = 4 ∨ k = 5) : zq_J (zq_re co t b) (fun post => wpX_doCompute post (nI T, nI N, nI D, nI L, nI K, co, ca, cb, cc, cv, cr, sg, st, dp, sc, rs, rm, mr, pc, sw, rg, sv) (nI t) (nI i)) (fun post => wpY_executePlain post (nI T, nI N, nI D, nI L, nI K, pg, cv, cr, st, dp, sc, rs, mr, rd, pc, rg, ph, pv, wh, wv) (nI t) (nI i)) := by
  have hR0 := hR
  obtain ⟨hB, hC, hTT, hRd, hP, hS, hO⟩ := hR0
  have hT4 : T ≤ 4 := hB.1
  have hN : N ≤ 16 := hB.2.1
  have hD3 : D ≤ 3 := hB.2.2.1
  have hL : L ≤ 64 := hB.2.2.2.1
  have ht4 : t < 4 := by omega
  have hd3 : d ≤ 3 := by omega
  have hi64 : i < 64 := by omega
  have tt := hTT t ht4
  obtain ⟨g0, g1, g2, g3, hf⟩ := hC i hi
  have es : st (nI t).toNatClampNeg = b := zq_rd t rfl hb
  have esd : dp (nI t).toNatClampNeg = nI d := zq_rd t rfl hd
  have hpc : pc (nI (t*5+1+d)).toNatClampNeg = nI i := zq_rd (t*5+1+d) rfl hp
  have hP' : zq_P (upd pc (t*5+1+d) (nI (i+1))) := zq_P_u hP _ ⟨i+1, by omega, rfl⟩
  have hR' : zq_RL T N D L K co ca cb cc st dp sc rm mr (upd pc (t*5+1+d) (nI (i+1))) sw sv pg rd ph pv := ⟨hB, hC, hTT, hRd, hP', hS, hO⟩
  obtain ⟨k', hk14, hk', fa, fb, fc, fj⟩ := hf
  obtain rfl : k = k' := (nI_eq (by omega) (by omega)).mp (hk.symm.trans hk')
  obtain ⟨a, ha4, ha⟩ := fa (by unfold zq_ua; omega)
  have ea : ∀ s, nI (s*4) + ca i = nI (s*4+a) := fun s => by rw [ha, nI_add]
  have hs20 : t*5+1+d < 20 := by omega
  rcases hkk with rfl | hkk
  · -- SET
    obtain ⟨jb, hjb, ejb⟩ := zq_3e (cb i)
    obtain ⟨jc, hjc, ejc⟩ := zq_3e (cc i)
    refine ⟨1, (nI T, nI N, nI D, nI L, nI K, co, ca, cb, cc, cv, cr, sg, st, dp, sc, rs, rm, mr, upd pc (t*5+1+d) (nI (i+1)), sw, upd rg ((t*5+1+d)*4+a) (cc i), sv), (nI T, nI N, nI D, nI L, nI K, pg, cv, cr, st, dp, sc, rs, mr, rd, upd pc (t*5+1+d) (nI (i+1)), upd rg ((t*5+1+d)*4+a) (cc i), ph, pv, wh, wv), zq_re_mk hR' hq, fun post h => ?_, fun post h => ?_⟩
    · exact zq_xcomp ht4 hd hd3 hi64 ejb hjb ejc hjc 1 hk (fun _ => zq_x123 hs20 hi64 ha4 ha hp h) (fun z => absurd z (by decide)) (fun z => absurd z (by decide)) (fun z => absurd z (by decide)) (fun z => absurd z (by decide)) (fun z => absurd z (by decide)) (by decide)
    · have n (m : Int32) (hm : ¬ (1 : Int32) = m) : ¬ co i = m := fun z => hm (hk.symm.trans z)
      exact zq_yplain ht4 hd hd3 hi64 g0 g1 g2 g3 (n 0 (by decide)) (fun _ => zq_st ((t*5+1+d)*4+a) (cc i) (ea _) rfl h) (fun z => absurd z (n 2 (by decide))) (fun z => absurd z (n 3 (by decide))) (fun z => absurd z (n 4 (by decide))) (fun z => absurd z (n 5 (by decide))) (fun z => absurd z (n 6 (by decide))) (fun z => absurd hk z)
  · obtain ⟨jb, hjb, hb'⟩ := fb (by unfold zq_ub; omega)
    obtain ⟨jc, hjc, hc'⟩ := fc (by unfold zq_uc; omega)
    have ejb : cb i &&& 3 = nI jb := by rw [hb']; exact zq_3m hjb
    have ejc : cc i &&& 3 = nI jc := by rw [hc']; exact zq_3m hjc
    have eb : ∀ s, nI (s*4) + cb i = nI (s*4+jb) := fun s => by rw [hb', nI_add]
    have ec : ∀ s, nI (s*4) + cc i = nI (s*4+jc) := fun s => by rw [hc', nI_add]
    have rb : rg (nI ((t*5+1+d)*4) + cb i).toNatClampNeg = rg ((t*5+1+d)*4+jb) := zq_rd _ (eb _) rfl
    have rc : rg (nI ((t*5+1+d)*4) + cc i).toNatClampNeg = rg ((t*5+1+d)*4+jc) := zq_rd _ (ec _) rfl
    rcases hkk with rfl | rfl | rfl | rfl
    · refine ⟨1, (nI T, nI N, nI D, nI L, nI K, co, ca, cb, cc, cv, cr, sg, st, dp, sc, rs, rm, mr, upd pc (t*5+1+d) (nI (i+1)), sw, upd rg ((t*5+1+d)*4+a) (rg ((t*5+1+d)*4+jb) + rg ((t*5+1+d)*4+jc)), sv), (nI T, nI N, nI D, nI L, nI K, pg, cv, cr, st, dp, sc, rs, mr, rd, upd pc (t*5+1+d) (nI (i+1)), upd rg ((t*5+1+d)*4+a) (rg ((t*5+1+d)*4+jb) + rg ((t*5+1+d)*4+jc)), ph, pv, wh, wv), zq_re_mk hR' hq, fun post h => ?_, fun post h => ?_⟩
      · exact zq_xcomp ht4 hd hd3 hi64 ejb hjb ejc hjc 2 hk (fun z => absurd z (by decide)) (fun _ => zq_x123 hs20 hi64 ha4 ha hp h) (fun z => absurd z (by decide)) (fun z => absurd z (by decide)) (fun z => absurd z (by decide)) (fun z => absurd z (by decide)) (by decide)
      · have n (m : Int32) (hm : ¬ (2 : Int32) = m) : ¬ co i = m := fun z => hm (hk.symm.trans z)
        exact zq_yplain ht4 hd hd3 hi64 g0 g1 g2 g3 (n 0 (by decide)) (fun z => absurd z (n 1 (by decide))) (fun _ => zq_in ((t*5+1+d)*4+jb) (eb _) (zq_in ((t*5+1+d)*4+jc) (ec _) (zq_st ((t*5+1+d)*4+a) (rg ((t*5+1+d)*4+jb) + rg ((t*5+1+d)*4+jc)) (ea _) (by rw [rb, rc]) h))) (fun z => absurd z (n 3 (by decide))) (fun z => absurd z (n 4 (by decide))) (fun z => absurd z (n 5 (by decide))) (fun z => absurd z (n 6 (by decide))) (fun _ z => absurd hk z)
    · refine ⟨1, (nI T, nI N, nI D, nI L, nI K, co, ca, cb, cc, cv, cr, sg, st, dp, sc, rs, rm, mr, upd pc (t*5+1+d) (nI (i+1)), sw, upd rg ((t*5+1+d)*4+a) (rg ((t*5+1+d)*4+jb) - rg ((t*5+1+d)*4+jc)), sv), (nI T, nI N, nI D, nI L, nI K, pg, cv, cr, st, dp, sc, rs, mr, rd, upd pc (t*5+1+d) (nI (i+1)), upd rg ((t*5+1+d)*4+a) (rg ((t*5+1+d)*4+jb) - rg ((t*5+1+d)*4+jc)), ph, pv, wh, wv), zq_re_mk hR' hq, fun post h => ?_, fun post h => ?_⟩
      · exact zq_xcomp ht4 hd hd3 hi64 ejb hjb ejc hjc 3 hk (fun z => absurd z (by decide)) (fun z => absurd z (by decide)) (fun _ => zq_x123 hs20 hi64 ha4 ha hp h) (fun z => absurd z (by decide)) (fun z => absurd z (by decide)) (fun z => absurd z (by decide)) (by decide)
      · have n (m : Int32) (hm : ¬ (3 : Int32) = m) : ¬ co i = m := fun z => hm (hk.symm.trans z)
        exact zq_yplain ht4 hd hd3 hi64 g0 g1 g2 g3 (n 0 (by decide)) (fun z => absurd z (n 1 (by decide))) (fun z => absurd z (n 2 (by decide))) (fun _ => zq_in ((t*5+1+d)*4+jb) (eb _) (zq_in ((t*5+1+d)*4+jc) (ec _) (zq_st ((t*5+1+d)*4+a) (rg ((t*5+1+d)*4+jb) - rg ((t*5+1+d)*4+jc)) (ea _) (by rw [rb, rc]) h))) (fun z => absurd z (n 4 (by decide))) (fun z => absurd z (n 5 (by decide))) (fun z => absurd z (n 6 (by decide))) (fun _ _ z => absurd hk z)
    · refine ⟨1, (nI T, nI N, nI D, nI L, nI K, co, ca, cb, cc, cv, cr, sg, st, dp, sc, rs, rm, mr, upd pc (t*5+1+d) (nI (i+1)), sw, upd rg ((t*5+1+d)*4+a) (rg ((t*5+1+d)*4+jb) * rg ((t*5+1+d)*4+jc)), sv), (nI T, nI N, nI D, nI L, nI K, pg, cv, cr, st, dp, sc, rs, mr, rd, upd pc (t*5+1+d) (nI (i+1)), upd rg ((t*5+1+d)*4+a) (rg ((t*5+1+d)*4+jb) * rg ((t*5+1+d)*4+jc)), ph, pv, wh, wv), zq_re_mk hR' hq, fun post h => ?_, fun post h => ?_⟩
      · exact zq_xcomp ht4 hd hd3 hi64 ejb hjb ejc hjc 4 hk (fun z => absurd z (by decide)) (fun z => absurd z (by decide)) (fun z => absurd z (by decide)) (fun _ => zq_x123 hs20 hi64 ha4 ha hp h) (fun z => absurd z (by decide)) (fun z => absurd z (by decide)) (by decide)
      · have n (m : Int32) (hm : ¬ (4 : Int32) = m) : ¬ co i = m := fun z => hm (hk.symm.trans z)
        exact zq_yplain ht4 hd hd3 hi64 g0 g1 g2 g3 (n 0 (by decide)) (fun z => absurd z (n 1 (by decide))) (fun z => absurd z (n 2 (by decide))) (fun z => absurd z (n 3 (by decide))) (fun _ => zq_in ((t*5+1+d)*4+jb) (eb _) (zq_in ((t*5+1+d)*4+jc) (ec _) (zq_st ((t*5+1+d)*4+a) (rg ((t*5+1+d)*4+jb) * rg ((t*5+1+d)*4+jc)) (ea _) (by rw [rb, rc]) h))) (fun z => absurd z (n 5 (by decide))) (fun z => absurd z (n 6 (by decide))) (fun _ _ _ z => absurd hk z)
    · by_cases c : rg ((t*5+1+d)*4+jc) ≤ rg ((t*5+1+d)*4+jb)
      · refine ⟨1, (nI T, nI N, nI D, nI L, nI K, co, ca, cb, cc, cv, cr, sg, st, dp, sc, rs, rm, mr, upd pc (t*5+1+d) (nI (i+1)), sw, upd rg ((t*5+1+d)*4+a) 0, sv), (nI T, nI N, nI D, nI L, nI K, pg, cv, cr, st, dp, sc, rs, mr, rd, upd pc (t*5+1+d) (nI (i+1)), upd rg ((t*5+1+d)*4+a) 0, ph, pv, wh, wv), zq_re_mk hR' hq, fun post h => ?_, fun post h => ?_⟩
        · exact zq_xcomp ht4 hd hd3 hi64 ejb hjb ejc hjc 5 hk (fun z => absurd z (by decide)) (fun z => absurd z (by decide)) (fun z => absurd z (by decide)) (fun z => absurd z (by decide)) (fun _ _ => zq_x123 hs20 hi64 ha4 ha hp h) (fun _ z => absurd c z) (by decide)
        · have n (m : Int32) (hm : ¬ (5 : Int32) = m) : ¬ co i = m := fun z => hm (hk.symm.trans z)
          exact zq_yplain ht4 hd hd3 hi64 g0 g1 g2 g3 (n 0 (by decide)) (fun z => absurd z (n 1 (by decide))) (fun z => absurd z (n 2 (by decide))) (fun z => absurd z (n 3 (by decide))) (fun z => absurd z (n 4 (by decide))) (fun _ => zq_in ((t*5+1+d)*4+jb) (eb _) (zq_in ((t*5+1+d)*4+jc) (ec _) (br_t (by rw [rb, rc]; exact c) (zq_st ((t*5+1+d)*4+a) 0 (ea _) rfl h)))) (fun z => absurd z (n 6 (by decide))) (fun _ _ _ _ z => absurd hk z)
      · refine ⟨1, (nI T, nI N, nI D, nI L, nI K, co, ca, cb, cc, cv, cr, sg, st, dp, sc, rs, rm, mr, upd pc (t*5+1+d) (nI (i+1)), sw, upd rg ((t*5+1+d)*4+a) 1, sv), (nI T, nI N, nI D, nI L, nI K, pg, cv, cr, st, dp, sc, rs, mr, rd, upd pc (t*5+1+d) (nI (i+1)), upd rg ((t*5+1+d)*4+a) 1, ph, pv, wh, wv), zq_re_mk hR' hq, fun post h => ?_, fun post h => ?_⟩
        · exact zq_xcomp ht4 hd hd3 hi64 ejb hjb ejc hjc 5 hk (fun z => absurd z (by decide)) (fun z => absurd z (by decide)) (fun z => absurd z (by decide)) (fun z => absurd z (by decide)) (fun _ z => absurd z c) (fun _ _ => zq_x123 hs20 hi64 ha4 ha hp h) (by decide)
        · have n (m : Int32) (hm : ¬ (5 : Int32) = m) : ¬ co i = m := fun z => hm (hk.symm.trans z)
          exact zq_yplain ht4 hd hd3 hi64 g0 g1 g2 g3 (n 0 (by decide)) (fun z => absurd z (n 1 (by decide))) (fun z => absurd z (n 2 (by decide))) (fun z => absurd z (n 3 (by decide))) (fun z => absurd z (n 4 (by decide))) (fun _ => zq_in ((t*5+1+d)*4+jb) (eb _) (zq_in ((t*5+1+d)*4+jc) (ec _) (br_f (by rw [rb, rc]; exact c) (zq_st ((t*5+1+d)*4+a) 1 (ea _) rfl h)))) (fun z => absurd z (n 6 (by decide))) (fun _ _ _ _ z => absurd hk z)
-- X: jumps
theorem zq_x45 {post : Int32 → SX → Prop} {s i : Nat} {x : Int32} (hs : s < 20) (hi : i < 64) (hp : pc s = nI i) (h0 : x = 0 → post 1 (nI T, nI N, nI D, nI L, nI K, co, ca, cb, cc, cv, cr, sg, st, dp, sc, rs, rm, mr, upd pc s (nI (i+1)), sw, rg, sv)) (h1 : ¬ x = 0 → post 1 (nI T, nI N, nI D, nI L, nI K, co, ca, cb, cc, cv, cr, sg, st, dp, sc, rs, rm, mr, upd pc s (cc i), sw, rg, sv)) : wX_doJump_45 post (nI i) (nI s) x (nI T) (nI N) (nI D) (nI L) (nI K) co ca cb cc cv cr sg st dp sc rs rm mr pc sw rg sv :=
  br_c (fun z => zq_in s rfl (zq_st s (nI (i+1)) rfl (by rw [zq_rd (a := pc) s rfl hp, nI_1]) (h0 z))) (fun z => zq_in i rfl (zq_st s (cc i) rfl (zq_rd i rfl rfl) (h1 z)))
-- ops 6, 7
theorem zq_jjump (hR : zq_RL T N D L K co ca cb cc st dp sc rm mr pc sw sv pg rd ph pv) {t d i : Nat} {b : Int32} (ht : t < T) (hd : dp t = nI d) (hdD : d ≤ D) (hp : pc (t*5+1+d) = nI i) (hi : i < L) (hb : st t = b) (hbb : b = 1 ∨ b = 2) (hmk : mr t = 0) (hq : zq_lt b (sc t)) {k : Nat} (hk : co i = nI k) (hkk : k = 6 ∨ k = 7) : zq_J (zq_re co t b) (fun post => wpX_doJump post (nI T, nI N, nI D, nI L, nI K, co, ca, cb, cc, cv, cr, sg, st, dp, sc, rs, rm, mr, pc, sw, rg, sv) (nI t) (nI i)) (fun post => wpY_executePlain post (nI T, nI N, nI D, nI L, nI K, pg, cv, cr, st, dp, sc, rs, mr, rd, pc, rg, ph, pv, wh, wv) (nI t) (nI i)) := by
  have hR0 := hR
  obtain ⟨hB, hC, hTT, hRd, hP, hS, hO⟩ := hR0
  have hT4 : T ≤ 4 := hB.1
  have hN : N ≤ 16 := hB.2.1
  have hD3 : D ≤ 3 := hB.2.2.1
  have hL : L ≤ 64 := hB.2.2.2.1
  have ht4 : t < 4 := by omega
  have hd3 : d ≤ 3 := by omega
  have hi64 : i < 64 := by omega
  have tt := hTT t ht4
  obtain ⟨g0, g1, g2, g3, hf⟩ := hC i hi
  have es : st (nI t).toNatClampNeg = b := zq_rd t rfl hb
  have esd : dp (nI t).toNatClampNeg = nI d := zq_rd t rfl hd
  have hpc : pc (nI (t*5+1+d)).toNatClampNeg = nI i := zq_rd (t*5+1+d) rfl hp
  have hs20 : t*5+1+d < 20 := by omega
  obtain ⟨k', hk14, hk', fa, fb, fc, fj⟩ := hf
  obtain rfl : k = k' := (nI_eq (by omega) (by omega)).mp (hk.symm.trans hk')
  obtain ⟨j, hj, hc'⟩ := fj (by unfold zq_uj; omega)
  have hR1 : zq_RL T N D L K co ca cb cc st dp sc rm mr (upd pc (t*5+1+d) (nI (i+1))) sw sv pg rd ph pv := ⟨hB, hC, hTT, hRd, zq_P_u hP _ ⟨i+1, by omega, rfl⟩, hS, hO⟩
  have hR2 : zq_RL T N D L K co ca cb cc st dp sc rm mr (upd pc (t*5+1+d) (cc i)) sw sv pg rd ph pv := ⟨hB, hC, hTT, hRd, zq_P_u hP _ ⟨j, by omega, hc'⟩, hS, hO⟩
  rcases hkk with rfl | rfl
  · refine ⟨1, (nI T, nI N, nI D, nI L, nI K, co, ca, cb, cc, cv, cr, sg, st, dp, sc, rs, rm, mr, upd pc (t*5+1+d) (cc i), sw, rg, sv), (nI T, nI N, nI D, nI L, nI K, pg, cv, cr, st, dp, sc, rs, mr, rd, upd pc (t*5+1+d) (cc i), rg, ph, pv, wh, wv), zq_re_mk hR2 hq, fun post h => ?_, fun post h => ?_⟩
    · unfold wpX_doJump
      refine zq_xtop ht4 hd ?_
      refine zq_in i rfl ?_
      refine br_f (by rw [zq_rd (a := co) i rfl hk]; decide) ?_
      exact zq_x45 hs20 hi64 hp (fun z => absurd z (by decide)) (fun _ => h)
    · have n (m : Int32) (hm : ¬ (6 : Int32) = m) : ¬ co i = m := fun z => hm (hk.symm.trans z)
      exact zq_yplain ht4 hd hd3 hi64 g0 g1 g2 g3 (n 0 (by decide)) (fun z => absurd z (n 1 (by decide))) (fun z => absurd z (n 2 (by decide))) (fun z => absurd z (n 3 (by decide))) (fun z => absurd z (n 4 (by decide))) (fun z => absurd z (n 5 (by decide))) (fun _ => h) (fun _ _ _ _ _ z => absurd hk z)
  · obtain ⟨a, ha4, ha⟩ := fa (by unfold zq_ua; omega)
    have ea : nI ((t*5+1+d)*4) + ca i = nI ((t*5+1+d)*4+a) := by rw [ha, nI_add]
    have ra : rg (nI ((t*5+1+d)*4) + ca i).toNatClampNeg = rg ((t*5+1+d)*4+a) := zq_rd _ ea rfl
    have n (m : Int32) (hm : ¬ (7 : Int32) = m) : ¬ co i = m := fun z => hm (hk.symm.trans z)
    by_cases c : rg ((t*5+1+d)*4+a) = 0
    · refine ⟨1, (nI T, nI N, nI D, nI L, nI K, co, ca, cb, cc, cv, cr, sg, st, dp, sc, rs, rm, mr, upd pc (t*5+1+d) (cc i), sw, rg, sv), (nI T, nI N, nI D, nI L, nI K, pg, cv, cr, st, dp, sc, rs, mr, rd, upd pc (t*5+1+d) (cc i), rg, ph, pv, wh, wv), zq_re_mk hR2 hq, fun post h => ?_, fun post h => ?_⟩
      · unfold wpX_doJump
        refine zq_xtop ht4 hd ?_
        refine zq_in i rfl ?_
        refine br_t (zq_rd (a := co) i rfl hk) ?_
        refine zq_in i rfl ?_
        refine zq_xget (r := a) hs20 ha4 (by rw [zq_rd (a := ca) i rfl ha]; exact zq_3m ha4) ?_
        exact br_t c (zq_x45 hs20 hi64 hp (fun z => absurd z (by decide)) (fun _ => h))
      · exact zq_yplain ht4 hd hd3 hi64 g0 g1 g2 g3 (n 0 (by decide)) (fun z => absurd z (n 1 (by decide))) (fun z => absurd z (n 2 (by decide))) (fun z => absurd z (n 3 (by decide))) (fun z => absurd z (n 4 (by decide))) (fun z => absurd z (n 5 (by decide))) (fun z => absurd z (n 6 (by decide))) (fun _ _ _ _ _ _ => zq_in ((t*5+1+d)*4+a) ea (br_t (ra.trans c) h))
    · refine ⟨1, (nI T, nI N, nI D, nI L, nI K, co, ca, cb, cc, cv, cr, sg, st, dp, sc, rs, rm, mr, upd pc (t*5+1+d) (nI (i+1)), sw, rg, sv), (nI T, nI N, nI D, nI L, nI K, pg, cv, cr, st, dp, sc, rs, mr, rd, upd pc (t*5+1+d) (nI (i+1)), rg, ph, pv, wh, wv), zq_re_mk hR1 hq, fun post h => ?_, fun post h => ?_⟩
      · unfold wpX_doJump
        refine zq_xtop ht4 hd ?_
        refine zq_in i rfl ?_
        refine br_t (zq_rd (a := co) i rfl hk) ?_
        refine zq_in i rfl ?_
        refine zq_xget (r := a) hs20 ha4 (by rw [zq_rd (a := ca) i rfl ha]; exact zq_3m ha4) ?_
        exact br_f c (zq_x45 hs20 hi64 hp (fun _ => h) (fun z => absurd rfl z))
      · exact zq_yplain ht4 hd hd3 hi64 g0 g1 g2 g3 (n 0 (by decide)) (fun z => absurd z (n 1 (by decide))) (fun z => absurd z (n 2 (by decide))) (fun z => absurd z (n 3 (by decide))) (fun z => absurd z (n 4 (by decide))) (fun z => absurd z (n 5 (by decide))) (fun z => absurd z (n 6 (by decide))) (fun _ _ _ _ _ _ => zq_in ((t*5+1+d)*4+a) ea (br_f (fun z => c (ra.symm.trans z)) h))
end
end
section
-- a run of an array laid over another
def zq_sl (a s : Nat → Int32) (b j : Nat) : Nat → Int32 := fun y => if y < j then s (b + y) else a y
theorem zq_sl0 (a s : Nat → Int32) (b : Nat) : zq_sl a s b 0 = a := funext fun y => if_neg (Nat.not_lt_zero y)
theorem zq_sls (a s : Nat → Int32) (b j : Nat) : upd (zq_sl a s b j) j (s (b + j)) = zq_sl a s b (j + 1) := by
  funext y
  unfold upd zq_sl
  by_cases g : y = j
  · subst g
    rw [if_pos rfl, if_pos (by omega)]
  · rw [if_neg g]
    by_cases k : y < j
    · rw [if_pos k, if_pos (by omega)]
    · rw [if_neg k, if_neg (by omega)]
section
variable {T N D L K : Nat} {co ca cb cc cv cr sg st dp sc rs rm mr pc sw rg sv pg rd ph pv wh wv : Nat → Int32}
-- Y: publishOne
theorem zq_yone1 {post : Int32 → SY → Prop} {w v : Int32} {x : Nat} (hE : ∀ n, wY_publishOne_3 post w (nI x) v (nI T) (nI N) (nI D) (nI L) (nI K) (n + 1) (nI 16) pg cv cr st dp sc rs mr rd pc rg ph pv (zq_sl wh (fun _ => 0) 0 16) wv) : ∀ d j : Nat, j + d = 16 → wY_publishOne_3 post w (nI x) v (nI T) (nI N) (nI D) (nI L) (nI K) (d + 1) (nI j) pg cv cr st dp sc rs mr rd pc rg ph pv (zq_sl wh (fun _ => 0) 0 j) wv := by
  intro d
  induction d with
  | zero =>
    intro j hj
    obtain rfl : j = 16 := by omega
    exact hE 0
  | succ d ih =>
    intro j hj
    have ih' := ih (j + 1) (by omega)
    rw [← zq_sls] at ih'
    refine br_f (nI_ge (b := 16) (by omega) (by omega)) ?_
    refine zq_st j 0 rfl zq_n0 ?_
    exact nm_r (nI_1 j) ih'
theorem zq_pub1 (hR : zq_RL T N D L K co ca cb cc st dp sc rm mr pc sw sv pg rd ph pv) (w v : Int32) {x : Nat} (hx : x < N) : ∃ (r : Int32) (K' : Nat) (cv' cr' st' dp' sc' rs' rm' mr' pc' sw' rg' rd' ph' pv' wh' : Nat → Int32), zq_RL T N D L K' co ca cb cc st' dp' sc' rm' mr' pc' sw' sv pg rd' ph' pv' ∧ (r = 0 ∨ r = 1) ∧ zq_fr w st st' dp dp' sc sc' pc pc' ∧ (∀ post : Int32 → SX → Prop, post r (nI T, nI N, nI D, nI L, nI K', co, ca, cb, cc, cv', cr', upd sg x v, st', dp', sc', rs', rm', mr', pc', sw', rg', sv) → wpX_publish post (nI T, nI N, nI D, nI L, nI K, co, ca, cb, cc, cv, cr, upd sg x v, st, dp, sc, rs, rm, mr, pc, sw, rg, sv) w ((1 : Int32) <<< (nI x &&& 31))) ∧ (∀ post : Int32 → SY → Prop, post r (nI T, nI N, nI D, nI L, nI K', pg, cv', cr', st', dp', sc', rs', mr', rd', pc', rg', ph', pv', wh', upd wv x v) → wpY_publishOne post (nI T, nI N, nI D, nI L, nI K, pg, cv, cr, st, dp, sc, rs, mr, rd, pc, rg, ph, pv, wh, wv) w (nI x) v) := by
  have hN : N ≤ 16 := hR.1.2.1
  have hm : ∀ y, y < 16 → upd (zq_sl wh (fun _ => 0) 0 16) x 1 y = zq_bz (bt ((1 : Int32) <<< (nI x &&& 31)) y) := by
    intro y hy
    rw [zq_sh (by omega)]
    by_cases g : y = x
    · subst g
      rw [pk_us, decide_eq_true rfl]
      rfl
    · rw [pk_un g, decide_eq_false g]
      exact if_pos hy
  have hv : ∀ y, y < 16 → bt ((1 : Int32) <<< (nI x &&& 31)) y = true → y < N ∧ upd sg x v y = upd wv x v y := by
    intro y hy h
    rw [zq_sh (by omega), decide_eq_true_eq] at h
    subst h
    exact ⟨hx, by rw [pk_us, pk_us]⟩
  obtain ⟨r, K', cv', cr', st', dp', sc', rs', rm', mr', pc', sw', rg', rd', ph', pv', wh', hR', hr, hF, hX, hY⟩ := zq_pub (cv := cv) (cr := cr) (rs := rs) (rg := rg) hR w hm hv
  refine ⟨r, K', cv', cr', st', dp', sc', rs', rm', mr', pc', sw', rg', rd', ph', pv', wh', hR', hr, hF, hX, fun post h => ?_⟩
  have e := zq_yone1 (post := post) (w := w) (v := v) (x := x) (T := T) (N := N) (D := D) (L := L) (K := K) (pg := pg) (cv := cv) (cr := cr) (st := st) (dp := dp) (sc := sc) (rs := rs) (mr := mr) (rd := rd) (pc := pc) (rg := rg) (ph := ph) (pv := pv) (wh := wh) (wv := wv) (fun n => br_t (nI_le (a := 16) (b := 16) (by omega) (by omega)) (zq_st x 1 rfl zq_n1 (zq_st x v rfl rfl (hY _ ⟨zq_nn hr, h⟩)))) 16 0 rfl
  rw [zq_sl0] at e
  exact ⟨17, e⟩
-- X: the end of a load
theorem zq_x111 {post : Int32 → SX → Prop} {s i a : Nat} {v : Int32} (hs : s < 20) (hi : i < 64) (ha4 : a < 4) (ha : ca i = nI a) (hp : pc s = nI i) (h : post 1 (nI T, nI N, nI D, nI L, nI K, co, ca, cb, cc, cv, cr, sg, st, dp, sc, rs, rm, mr, upd pc s (nI (i+1)), sw, upd rg (s*4+a) v, sv)) : wX_doLoad_111 post (nI i) (nI s) v (nI T) (nI N) (nI D) (nI L) (nI K) co ca cb cc cv cr sg st dp sc rs rm mr pc sw rg sv := by
  refine zq_in i rfl ?_
  refine zq_xset (r := a) hs ha4 (by rw [zq_rd (a := ca) i rfl ha]; exact zq_3m ha4) ?_
  refine zq_in s rfl ?_
  exact zq_st s (nI (i+1)) rfl (by rw [zq_rd (a := pc) s rfl hp, nI_1]) h
theorem zq_y171 {post : Int32 → SY → Prop} {s i : Nat} (hs : s < 20) (h : post 1 (nI T, nI N, nI D, nI L, nI K, pg, cv, cr, st, dp, sc, rs, mr, rd, upd pc s (nI (i+1)), rg, ph, pv, wh, wv)) : wY_executeMemory_171 post (nI i) (nI s) (nI T) (nI N) (nI D) (nI L) (nI K) pg cv cr st dp sc rs mr rd pc rg ph pv wh wv :=
  zq_st s (nI (i+1)) rfl (nI_1 i) h
-- Y: executeMemory up to its cell
theorem zq_ymem_bad {post : Int32 → SY → Prop} {t d i a jb : Nat} {x : Int32} (ht : t < 4) (hd : dp t = nI d) (hd3 : d ≤ 3) (hi : i < 64) (g1 : pg (i*4+1) = nI a) (ha4 : a < 4) (g2 : pg (i*4+2) = nI jb) (hb4 : jb < 4) (hx : rg ((t*5+1+d)*4+jb) + pg (i*4+3) = x) (hbad : x < 0 ∨ nI N ≤ x) (h : ∀ Q : Int32 → SY → Prop, (∀ r u, post r u → Q r u) → wpY_fail Q (nI T, nI N, nI D, nI L, nI K, pg, cv, cr, st, dp, sc, rs, mr, rd, pc, rg, ph, pv, wh, wv) (nI t) 6) : wpY_executeMemory post (nI T, nI N, nI D, nI L, nI K, pg, cv, cr, st, dp, sc, rs, mr, rd, pc, rg, ph, pv, wh, wv) (nI t) (nI i) := by
  have e2 : nI (t*5+1+d) * 4 + pg (nI i * 4 + 2).toNatClampNeg = nI ((t*5+1+d)*4+jb) := by rw [zq_rd (a := pg) (i*4+2) (zq_42 i) g2, zq_4a]
  refine zq_in t rfl ?_
  refine nm_r (zq_topY (zq_rd t rfl hd)) ?_
  refine zq_in (i*4+1) (zq_41 i) ?_
  refine nm_r (e' := nI ((t*5+1+d)*4+a)) (by rw [zq_rd (a := pg) (i*4+1) (zq_41 i) g1, zq_4a]) ?_
  refine zq_in (i*4+2) (zq_42 i) ?_
  refine zq_in ((t*5+1+d)*4+jb) e2 ?_
  refine zq_in (i*4+3) (zq_43 i) ?_
  refine nm_r (e' := x) (by rw [zq_rd (a := rg) ((t*5+1+d)*4+jb) e2 rfl, zq_rd (a := pg) (i*4+3) (zq_43 i) rfl]; exact hx) ?_
  refine zq_ycen hbad ?_
  exact br_t rfl (h _ (fun r u hu => zq_ye hu))
-- op 8
theorem zq_jload (hR : zq_RL T N D L K co ca cb cc st dp sc rm mr pc sw sv pg rd ph pv) {t d i : Nat} {b : Int32} (ht : t < T) (hd : dp t = nI d) (hdD : d ≤ D) (hp : pc (t*5+1+d) = nI i) (hi : i < L) (hb : st t = b) (hbb : b = 1 ∨ b = 2) (hmk : mr t = 0) (hq : zq_lt b (sc t)) (hk : co i = nI 8) : zq_J (zq_re co t b) (fun post => wpX_doLoad post (nI T, nI N, nI D, nI L, nI K, co, ca, cb, cc, cv, cr, sg, st, dp, sc, rs, rm, mr, pc, sw, rg, sv) (nI t) (nI i)) (fun post => wpY_executeMemory post (nI T, nI N, nI D, nI L, nI K, pg, cv, cr, st, dp, sc, rs, mr, rd, pc, rg, ph, pv, wh, wv) (nI t) (nI i)) := by
  have hR0 := hR
  obtain ⟨hB, hC, hTT, hRd, hP, hS, hO⟩ := hR0
  have hT4 : T ≤ 4 := hB.1
  have hN : N ≤ 16 := hB.2.1
  have hD3 : D ≤ 3 := hB.2.2.1
  have hL : L ≤ 64 := hB.2.2.2.1
  have ht4 : t < 4 := by omega
  have hd3 : d ≤ 3 := by omega
  have hi64 : i < 64 := by omega
  have tt := hTT t ht4
  obtain ⟨g0, g1, g2, g3, hf⟩ := hC i hi
  have es : st (nI t).toNatClampNeg = b := zq_rd t rfl hb
  have esd : dp (nI t).toNatClampNeg = nI d := zq_rd t rfl hd
  have hpc : pc (nI (t*5+1+d)).toNatClampNeg = nI i := zq_rd (t*5+1+d) rfl hp
  have hs20 : t*5+1+d < 20 := by omega
  obtain ⟨k', hk14, hk', fa, fb, fc, fj⟩ := hf
  obtain rfl : 8 = k' := (nI_eq (by omega) (by omega)).mp (hk.symm.trans hk')
  obtain ⟨a, ha4, ha⟩ := fa (by unfold zq_ua; omega)
  obtain ⟨jb, hb4, hjb⟩ := fb (by unfold zq_ub; omega)
  have ejb : cb i &&& 3 = nI jb := by rw [hjb]; exact zq_3m hb4
  have hP1 : zq_P (upd pc (t*5+1+d) (nI (i+1))) := zq_P_u hP _ ⟨i+1, by omega, rfl⟩
  have e2 : nI (t*5+1+d) * 4 + pg (nI i * 4 + 2).toNatClampNeg = nI ((t*5+1+d)*4+jb) := by rw [zq_rd (a := pg) (i*4+2) (zq_42 i) (g2.trans hjb), zq_4a]
  by_cases hbad : rg ((t*5+1+d)*4+jb) + cc i < 0 ∨ nI N ≤ rg ((t*5+1+d)*4+jb) + cc i
  · obtain ⟨u, v, hre, hX, hY⟩ := zq_jfail (cv := cv) (cr := cr) (sg := sg) (rs := rs) (rg := rg) (wh := wh) (wv := wv) hR ht b 6
    refine ⟨6, u, v, hre, fun post h => ?_, fun post h => ?_⟩
    · unfold wpX_doLoad
      refine zq_xtop ht4 hd ?_
      refine zq_in i rfl ?_
      refine zq_xget (r := jb) hs20 hb4 (by rw [zq_rd (a := cb) i rfl rfl]; exact ejb) ?_
      refine zq_in i rfl ?_
      refine nm_r (e' := rg ((t*5+1+d)*4+jb) + cc i) (by rw [zq_rd (a := cc) i rfl rfl]) ?_
      refine zq_xcen hbad ?_
      exact br_t rfl (hX _ (zq_xe h))
    · exact zq_ymem_bad ht4 hd hd3 hi64 (g1.trans ha) ha4 (g2.trans hjb) hb4 (by rw [g3]) hbad (fun Q hQ => hY Q (hQ 6 v h))
  · obtain ⟨x, hxN, ex⟩ : ∃ x, x < N ∧ rg ((t*5+1+d)*4+jb) + cc i = nI x := by
      rcases pk_ix (rg ((t*5+1+d)*4+jb) + cc i) (n := N) (by omega) with z | z | z
      · exact absurd (Or.inl z) hbad
      · exact absurd (Or.inr z) hbad
      · exact z
    have hx16 : x < 16 := by omega
    -- Y's walk up to the branch on the state
    have hYw : ∀ post : Int32 → SY → Prop, wpY_inBlock (fun r => ((r = 0 → wY_executeMemory_136 post (nI t) (nI i) (nI (t*5+1+d)) (nI ((t*5+1+d)*4+a)) (nI x) (nI T) (nI N) (nI D) (nI L) (nI K) pg cv cr st dp sc rs mr rd pc rg ph pv wh wv) ∧ (¬ r = 0 → (vp_in (nI (t*5+1+d) * 16 + nI x) 320 ∧ ((ph (nI (t*5+1+d) * 16 + nI x).toNatClampNeg = 0 → wY_executeMemory_136 post (nI t) (nI i) (nI (t*5+1+d)) (nI ((t*5+1+d)*4+a)) (nI x) (nI T) (nI N) (nI D) (nI L) (nI K) pg cv cr st dp sc rs mr rd pc rg ph pv wh wv) ∧ (¬ ph (nI (t*5+1+d) * 16 + nI x).toNatClampNeg = 0 → (vp_in (nI (t*5+1+d) * 16 + nI x) 320 ∧ (vp_in (nI ((t*5+1+d)*4+a)) 80 ∧ ∀ rg' : Nat → Int32, rg' = upd rg (nI ((t*5+1+d)*4+a)).toNatClampNeg (pv (nI (t*5+1+d) * 16 + nI x).toNatClampNeg) → wY_executeMemory_171 post (nI i) (nI (t*5+1+d)) (nI T) (nI N) (nI D) (nI L) (nI K) pg cv cr st dp sc rs mr rd pc rg' ph pv wh wv))))))) ) (nI T, nI N, nI D, nI L, nI K, pg, cv, cr, st, dp, sc, rs, mr, rd, pc, rg, ph, pv, wh, wv) (nI t) → wpY_executeMemory post (nI T, nI N, nI D, nI L, nI K, pg, cv, cr, st, dp, sc, rs, mr, rd, pc, rg, ph, pv, wh, wv) (nI t) (nI i) := by
      intro post h
      refine zq_in t rfl ?_
      refine nm_r (zq_topY (zq_rd t rfl hd)) ?_
      refine zq_in (i*4+1) (zq_41 i) ?_
      refine nm_r (e' := nI ((t*5+1+d)*4+a)) (by rw [zq_rd (a := pg) (i*4+1) (zq_41 i) (g1.trans ha), zq_4a]) ?_
      refine zq_in (i*4+2) (zq_42 i) ?_
      refine zq_in ((t*5+1+d)*4+jb) e2 ?_
      refine zq_in (i*4+3) (zq_43 i) ?_
      refine nm_r (e' := nI x) (by rw [zq_rd (a := rg) ((t*5+1+d)*4+jb) e2 rfl, zq_rd (a := pg) (i*4+3) (zq_43 i) g3]; exact ex) ?_
      refine zq_yce hN hxN ?_
      refine br_f (by decide) ?_
      refine zq_in (i*4) (zq_4 i) ?_
      exact br_t (zq_rd (a := pg) (i*4) (zq_4 i) (g0.trans hk)) h
    have hXw : ∀ post : Int32 → SX → Prop, (b = 2 → bt (sw (t*5+1+d)) x = false → wX_doLoad_111 post (nI i) (nI (t*5+1+d)) (cv x) (nI T) (nI N) (nI D) (nI L) (nI K) co ca cb cc cv cr sg st dp sc rs (upd rm t (rm t ||| ((1 : Int32) <<< (nI x &&& 31)))) mr pc sw rg sv) → (b = 2 → bt (sw (t*5+1+d)) x = true → wX_doLoad_111 post (nI i) (nI (t*5+1+d)) (sv ((t*5+1+d)*16+x)) (nI T) (nI N) (nI D) (nI L) (nI K) co ca cb cc cv cr sg st dp sc rs rm mr pc sw rg sv) → (¬ b = 2 → wX_doLoad_111 post (nI i) (nI (t*5+1+d)) (cv x) (nI T) (nI N) (nI D) (nI L) (nI K) co ca cb cc cv cr sg st dp sc rs rm mr pc sw rg sv) → wpX_doLoad post (nI T, nI N, nI D, nI L, nI K, co, ca, cb, cc, cv, cr, sg, st, dp, sc, rs, rm, mr, pc, sw, rg, sv) (nI t) (nI i) := by
      intro post h1 h2 h3
      unfold wpX_doLoad
      refine zq_xtop ht4 hd ?_
      refine zq_in i rfl ?_
      refine zq_xget (r := jb) hs20 hb4 (by rw [zq_rd (a := cb) i rfl rfl]; exact ejb) ?_
      refine zq_in i rfl ?_
      refine nm_r (e' := nI x) (by rw [zq_rd (a := cc) i rfl rfl]; exact ex) ?_
      refine zq_xce hN hxN ?_
      refine br_f (by decide) ?_
      refine zq_in x rfl ?_
      refine zq_nm x (cv x) rfl rfl ?_
      refine zq_in t rfl ?_
      refine br_c (fun z => ?_) (fun z => h3 (fun y => z (es.trans y)))
      have b2 : b = 2 := es.symm.trans z
      refine zq_in (t*5+1+d) rfl ?_
      rw [zq_rd (a := sw) (t*5+1+d) rfl rfl]
      refine zq_xhb (by omega) ?_
      cases e : bt (sw (t*5+1+d)) x
      · refine br_t rfl ?_
        refine zq_in t rfl ?_
        exact zq_st t (rm t ||| ((1 : Int32) <<< (nI x &&& 31))) rfl (by rw [zq_rd (a := rm) t rfl rfl]) (h1 b2 e)
      · refine br_f (by decide) ?_
        refine zq_in ((t*5+1+d)*16+x) (zq_16a _ x) ?_
        exact zq_nm ((t*5+1+d)*16+x) (sv ((t*5+1+d)*16+x)) (zq_16a _ x) rfl (h2 b2 e)
    obtain ⟨hph, hpv⟩ := hS (t*5+1+d) hs20 x hx16
    have rph : ph (nI (t*5+1+d) * 16 + nI x).toNatClampNeg = zq_bz (bt (sw (t*5+1+d)) x) := zq_rd _ (zq_16a _ x) hph
    rcases hbb with b1 | b2
    · have n2 : ¬ st t = 2 := by rw [hb, b1]; decide
      have n3 : ¬ st t = 3 := by rw [hb, b1]; decide
      have nb : ¬ b = 2 := by rw [b1]; decide
      refine ⟨1, (nI T, nI N, nI D, nI L, nI K, co, ca, cb, cc, cv, cr, sg, st, dp, sc, rs, rm, mr, upd pc (t*5+1+d) (nI (i+1)), sw, upd rg ((t*5+1+d)*4+a) (cv x), sv), (nI T, nI N, nI D, nI L, nI K, pg, cv, cr, st, dp, sc, rs, mr, rd, upd pc (t*5+1+d) (nI (i+1)), upd rg ((t*5+1+d)*4+a) (cv x), ph, pv, wh, wv), zq_re_mk ⟨hB, hC, hTT, hRd, hP1, hS, hO⟩ hq, fun post h => ?_, fun post h => ?_⟩
      · exact hXw post (fun z => absurd z nb) (fun z => absurd z nb) (fun _ => zq_x111 hs20 hi64 ha4 ha hp h)
      · refine hYw post (zq_yib ht4 (fun z => absurd z (fun y => y.elim n2 n3)) (fun _ _ => br_t rfl ?_))
        refine zq_in x rfl ?_
        refine zq_st ((t*5+1+d)*4+a) (cv x) rfl (zq_rd x rfl rfl) ?_
        refine zq_yib ht4 (fun z => absurd z (fun y => y.elim n2 n3)) (fun _ _ => br_t rfl ?_)
        exact zq_y171 hs20 h
    · have s2 : st t = 2 := hb.trans b2
      cases e : bt (sw (t*5+1+d)) x
      · have hT' : zq_T T D st dp sc (upd rm t (rm t ||| ((1 : Int32) <<< (nI x &&& 31)))) mr := zq_T_rm hTT (fun _ => ⟨tt.1, tt.2.1, tt.2.2.1, tt.2.2.2.1, tt.2.2.2.2.1, fun z => absurd s2 z⟩)
        refine ⟨1, (nI T, nI N, nI D, nI L, nI K, co, ca, cb, cc, cv, cr, sg, st, dp, sc, rs, upd rm t (rm t ||| ((1 : Int32) <<< (nI x &&& 31))), mr, upd pc (t*5+1+d) (nI (i+1)), sw, upd rg ((t*5+1+d)*4+a) (cv x), sv), (nI T, nI N, nI D, nI L, nI K, pg, cv, cr, st, dp, sc, rs, mr, upd rd (t*16+x) 1, upd pc (t*5+1+d) (nI (i+1)), upd rg ((t*5+1+d)*4+a) (cv x), ph, pv, wh, wv), zq_re_mk ⟨hB, hC, hT', zq_R_add hRd hx16, hP1, hS, hO⟩ hq, fun post h => ?_, fun post h => ?_⟩
        · exact hXw post (fun _ _ => zq_x111 hs20 hi64 ha4 ha hp h) (fun _ z => by rw [e] at z; exact Bool.noConfusion z) (fun z => absurd b2 z)
        · refine hYw post (zq_yib ht4 (fun _ => br_f (by decide) ?_) (fun z _ => absurd s2 z))
          refine zq_in ((t*5+1+d)*16+x) (zq_16a _ x) ?_
          refine br_t (by rw [rph, e]; rfl) ?_
          refine zq_in x rfl ?_
          refine zq_st ((t*5+1+d)*4+a) (cv x) rfl (zq_rd x rfl rfl) ?_
          refine zq_yib ht4 (fun _ => br_f (by decide) ?_) (fun z _ => absurd s2 z)
          refine zq_st (t*16+x) 1 (zq_16a t x) zq_n1 ?_
          exact zq_y171 hs20 h
      · have epv := (hpv e).2
        refine ⟨1, (nI T, nI N, nI D, nI L, nI K, co, ca, cb, cc, cv, cr, sg, st, dp, sc, rs, rm, mr, upd pc (t*5+1+d) (nI (i+1)), sw, upd rg ((t*5+1+d)*4+a) (pv ((t*5+1+d)*16+x)), sv), (nI T, nI N, nI D, nI L, nI K, pg, cv, cr, st, dp, sc, rs, mr, rd, upd pc (t*5+1+d) (nI (i+1)), upd rg ((t*5+1+d)*4+a) (pv ((t*5+1+d)*16+x)), ph, pv, wh, wv), zq_re_mk ⟨hB, hC, hTT, hRd, hP1, hS, hO⟩ hq, fun post h => ?_, fun post h => ?_⟩
        · exact hXw post (fun _ z => by rw [e] at z; exact Bool.noConfusion z) (fun _ _ => by rw [epv]; exact zq_x111 hs20 hi64 ha4 ha hp h) (fun z => absurd b2 z)
        · refine hYw post (zq_yib ht4 (fun _ => br_f (by decide) ?_) (fun z _ => absurd s2 z))
          refine zq_in ((t*5+1+d)*16+x) (zq_16a _ x) ?_
          refine br_f (by rw [rph, e]; decide) ?_
          refine zq_in ((t*5+1+d)*16+x) (zq_16a _ x) ?_
          refine zq_st ((t*5+1+d)*4+a) (pv ((t*5+1+d)*16+x)) rfl (zq_rd _ (zq_16a _ x) rfl) ?_
          exact zq_y171 hs20 h
-- op 9
theorem zq_jstore (hR : zq_RL T N D L K co ca cb cc st dp sc rm mr pc sw sv pg rd ph pv) {t d i : Nat} {b : Int32} (ht : t < T) (hd : dp t = nI d) (hdD : d ≤ D) (hp : pc (t*5+1+d) = nI i) (hi : i < L) (hb : st t = b) (hbb : b = 1 ∨ b = 2) (hmk : mr t = 0) (hq : zq_lt b (sc t)) (hk : co i = nI 9) : zq_J (zq_re co t b) (fun post => wpX_doStore post (nI T, nI N, nI D, nI L, nI K, co, ca, cb, cc, cv, cr, sg, st, dp, sc, rs, rm, mr, pc, sw, rg, sv) (nI t) (nI i)) (fun post => wpY_executeMemory post (nI T, nI N, nI D, nI L, nI K, pg, cv, cr, st, dp, sc, rs, mr, rd, pc, rg, ph, pv, wh, wv) (nI t) (nI i)) := by
  have hR0 := hR
  obtain ⟨hB, hC, hTT, hRd, hP, hS, hO⟩ := hR0
  have hT4 : T ≤ 4 := hB.1
  have hN : N ≤ 16 := hB.2.1
  have hD3 : D ≤ 3 := hB.2.2.1
  have hL : L ≤ 64 := hB.2.2.2.1
  have ht4 : t < 4 := by omega
  have hd3 : d ≤ 3 := by omega
  have hi64 : i < 64 := by omega
  have tt := hTT t ht4
  obtain ⟨g0, g1, g2, g3, hf⟩ := hC i hi
  have es : st (nI t).toNatClampNeg = b := zq_rd t rfl hb
  have esd : dp (nI t).toNatClampNeg = nI d := zq_rd t rfl hd
  have hpc : pc (nI (t*5+1+d)).toNatClampNeg = nI i := zq_rd (t*5+1+d) rfl hp
  have hs20 : t*5+1+d < 20 := by omega
  obtain ⟨k', hk14, hk', fa, fb, fc, fj⟩ := hf
  obtain rfl : 9 = k' := (nI_eq (by omega) (by omega)).mp (hk.symm.trans hk')
  obtain ⟨a, ha4, ha⟩ := fa (by unfold zq_ua; omega)
  obtain ⟨jb, hb4, hjb⟩ := fb (by unfold zq_ub; omega)
  have ejb : cb i &&& 3 = nI jb := by rw [hjb]; exact zq_3m hb4
  have hP1 : zq_P (upd pc (t*5+1+d) (nI (i+1))) := zq_P_u hP _ ⟨i+1, by omega, rfl⟩
  have e2 : nI (t*5+1+d) * 4 + pg (nI i * 4 + 2).toNatClampNeg = nI ((t*5+1+d)*4+jb) := by rw [zq_rd (a := pg) (i*4+2) (zq_42 i) (g2.trans hjb), zq_4a]
  have rv : rg (nI ((t*5+1+d)*4+a)).toNatClampNeg = rg ((t*5+1+d)*4+a) := zq_rd _ rfl rfl
  by_cases hbad : rg ((t*5+1+d)*4+jb) + cc i < 0 ∨ nI N ≤ rg ((t*5+1+d)*4+jb) + cc i
  · obtain ⟨u, v, hre, hX, hY⟩ := zq_jfail (cv := cv) (cr := cr) (sg := sg) (rs := rs) (rg := rg) (wh := wh) (wv := wv) hR ht b 6
    refine ⟨6, u, v, hre, fun post h => ?_, fun post h => ?_⟩
    · unfold wpX_doStore
      refine zq_xtop ht4 hd ?_
      refine zq_in i rfl ?_
      refine zq_xget (r := jb) hs20 hb4 (by rw [zq_rd (a := cb) i rfl rfl]; exact ejb) ?_
      refine zq_in i rfl ?_
      refine nm_r (e' := rg ((t*5+1+d)*4+jb) + cc i) (by rw [zq_rd (a := cc) i rfl rfl]) ?_
      refine zq_xcen hbad ?_
      exact br_t rfl (hX _ (zq_xe h))
    · exact zq_ymem_bad ht4 hd hd3 hi64 (g1.trans ha) ha4 (g2.trans hjb) hb4 (by rw [g3]) hbad (fun Q hQ => hY Q (hQ 6 v h))
  · obtain ⟨x, hxN, ex⟩ : ∃ x, x < N ∧ rg ((t*5+1+d)*4+jb) + cc i = nI x := by
      rcases pk_ix (rg ((t*5+1+d)*4+jb) + cc i) (n := N) (by omega) with z | z | z
      · exact absurd (Or.inl z) hbad
      · exact absurd (Or.inr z) hbad
      · exact z
    have hx16 : x < 16 := by omega
    rcases hbb with b1 | b2
    · have n2 : ¬ st t = 2 := by rw [hb, b1]; decide
      have n3 : ¬ st t = 3 := by rw [hb, b1]; decide
      obtain ⟨r, K', cv', cr', st', dp', sc', rs', rm', mr', pc', sw', rg', rd', ph', pv', wh', hR', hr, hF, hX, hY⟩ := zq_pub1 (cv := cv) (cr := cr) (sg := sg) (rs := rs) (rg := rg) (wh := wh) (wv := wv) hR (nI t) (rg ((t*5+1+d)*4+a)) hxN
      have hFt := hF t ht4 rfl
      have hp' : pc' (t*5+1+d) = nI i := (hFt.2.2.2 (t*5+1+d) (by omega) (by omega)).trans hp
      rcases hr with r0 | r1
      · obtain ⟨u, v, hre, hfX, hfY⟩ := zq_jfail (cv := cv') (cr := cr') (sg := upd sg x (rg ((t*5+1+d)*4+a))) (rs := rs') (rg := rg') (wh := wh') (wv := upd wv x (rg ((t*5+1+d)*4+a))) hR' ht b 10
        refine ⟨6, u, v, hre, fun post h => ?_, fun post h => ?_⟩
        · unfold wpX_doStore
          refine zq_xtop ht4 hd ?_
          refine zq_in i rfl ?_
          refine zq_xget (r := jb) hs20 hb4 (by rw [zq_rd (a := cb) i rfl rfl]; exact ejb) ?_
          refine zq_in i rfl ?_
          refine nm_r (e' := nI x) (by rw [zq_rd (a := cc) i rfl rfl]; exact ex) ?_
          refine zq_xce hN hxN ?_
          refine br_f (by decide) ?_
          refine zq_in i rfl ?_
          refine zq_xget (r := a) hs20 ha4 (by rw [zq_rd (a := ca) i rfl ha]; exact zq_3m ha4) ?_
          refine zq_in t rfl ?_
          refine br_f (by rw [es, b1]; decide) ?_
          refine zq_st x (rg ((t*5+1+d)*4+a)) rfl rfl ?_
          refine hX _ ?_
          exact br_t r0 (hfX _ (zq_xe h))
        · refine zq_in t rfl ?_
          refine nm_r (zq_topY (zq_rd t rfl hd)) ?_
          refine zq_in (i*4+1) (zq_41 i) ?_
          refine nm_r (e' := nI ((t*5+1+d)*4+a)) (by rw [zq_rd (a := pg) (i*4+1) (zq_41 i) (g1.trans ha), zq_4a]) ?_
          refine zq_in (i*4+2) (zq_42 i) ?_
          refine zq_in ((t*5+1+d)*4+jb) e2 ?_
          refine zq_in (i*4+3) (zq_43 i) ?_
          refine nm_r (e' := nI x) (by rw [zq_rd (a := rg) ((t*5+1+d)*4+jb) e2 rfl, zq_rd (a := pg) (i*4+3) (zq_43 i) g3]; exact ex) ?_
          refine zq_yce hN hxN ?_
          refine br_f (by decide) ?_
          refine zq_in (i*4) (zq_4 i) ?_
          refine br_f (by rw [zq_rd (a := pg) (i*4) (zq_4 i) (g0.trans hk)]; decide) ?_
          refine zq_yib ht4 (fun z => absurd z (fun y => y.elim n2 n3)) (fun _ _ => br_t rfl ?_)
          refine zq_in ((t*5+1+d)*4+a) rfl ?_
          rw [rv]
          refine hY _ ?_
          exact br_t r0 (hfY _ (zq_ye h))
      · refine ⟨2, (nI T, nI N, nI D, nI L, nI K', co, ca, cb, cc, cv', cr', upd sg x (rg ((t*5+1+d)*4+a)), st', dp', sc', rs', rm', mr', upd pc' (t*5+1+d) (nI (i+1)), sw', rg', sv), (nI T, nI N, nI D, nI L, nI K', pg, cv', cr', st', dp', sc', rs', mr', rd', upd pc' (t*5+1+d) (nI (i+1)), rg', ph', pv', wh', upd wv x (rg ((t*5+1+d)*4+a))), zq_re_mk ⟨hR'.1, hR'.2.1, hR'.2.2.1, hR'.2.2.2.1, zq_P_u hR'.2.2.2.2.1 _ ⟨i+1, by omega, rfl⟩, hR'.2.2.2.2.2⟩ (by rw [hFt.2.2.1]; exact hq), fun post h => ?_, fun post h => ?_⟩
        · unfold wpX_doStore
          refine zq_xtop ht4 hd ?_
          refine zq_in i rfl ?_
          refine zq_xget (r := jb) hs20 hb4 (by rw [zq_rd (a := cb) i rfl rfl]; exact ejb) ?_
          refine zq_in i rfl ?_
          refine nm_r (e' := nI x) (by rw [zq_rd (a := cc) i rfl rfl]; exact ex) ?_
          refine zq_xce hN hxN ?_
          refine br_f (by decide) ?_
          refine zq_in i rfl ?_
          refine zq_xget (r := a) hs20 ha4 (by rw [zq_rd (a := ca) i rfl ha]; exact zq_3m ha4) ?_
          refine zq_in t rfl ?_
          refine br_f (by rw [es, b1]; decide) ?_
          refine zq_st x (rg ((t*5+1+d)*4+a)) rfl rfl ?_
          refine hX _ ?_
          refine br_f (by rw [r1]; decide) ?_
          refine zq_in (t*5+1+d) rfl ?_
          exact zq_st (t*5+1+d) (nI (i+1)) rfl (by rw [zq_rd (a := pc') (t*5+1+d) rfl hp', nI_1]) h
        · refine zq_in t rfl ?_
          refine nm_r (zq_topY (zq_rd t rfl hd)) ?_
          refine zq_in (i*4+1) (zq_41 i) ?_
          refine nm_r (e' := nI ((t*5+1+d)*4+a)) (by rw [zq_rd (a := pg) (i*4+1) (zq_41 i) (g1.trans ha), zq_4a]) ?_
          refine zq_in (i*4+2) (zq_42 i) ?_
          refine zq_in ((t*5+1+d)*4+jb) e2 ?_
          refine zq_in (i*4+3) (zq_43 i) ?_
          refine nm_r (e' := nI x) (by rw [zq_rd (a := rg) ((t*5+1+d)*4+jb) e2 rfl, zq_rd (a := pg) (i*4+3) (zq_43 i) g3]; exact ex) ?_
          refine zq_yce hN hxN ?_
          refine br_f (by decide) ?_
          refine zq_in (i*4) (zq_4 i) ?_
          refine br_f (by rw [zq_rd (a := pg) (i*4) (zq_4 i) (g0.trans hk)]; decide) ?_
          refine zq_yib ht4 (fun z => absurd z (fun y => y.elim n2 n3)) (fun _ _ => br_t rfl ?_)
          refine zq_in ((t*5+1+d)*4+a) rfl ?_
          rw [rv]
          refine hY _ ?_
          refine br_f (by rw [r1]; decide) ?_
          exact zq_st (t*5+1+d) (nI (i+1)) rfl (nI_1 i) h
    · have s2 : st t = 2 := hb.trans b2
      refine ⟨1, (nI T, nI N, nI D, nI L, nI K, co, ca, cb, cc, cv, cr, sg, st, dp, sc, rs, rm, mr, upd pc (t*5+1+d) (nI (i+1)), upd sw (t*5+1+d) (sw (t*5+1+d) ||| ((1 : Int32) <<< (nI x &&& 31))), rg, upd sv ((t*5+1+d)*16+x) (rg ((t*5+1+d)*4+a))), (nI T, nI N, nI D, nI L, nI K, pg, cv, cr, st, dp, sc, rs, mr, rd, upd pc (t*5+1+d) (nI (i+1)), rg, upd ph ((t*5+1+d)*16+x) 1, upd pv ((t*5+1+d)*16+x) (rg ((t*5+1+d)*4+a)), wh, wv), zq_re_mk ⟨hB, hC, hTT, hRd, hP1, zq_S_add hS hx16 hxN _, zq_O_u hO (fun y hy => by omega) _⟩ hq, fun post h => ?_, fun post h => ?_⟩
      · unfold wpX_doStore
        refine zq_xtop ht4 hd ?_
        refine zq_in i rfl ?_
        refine zq_xget (r := jb) hs20 hb4 (by rw [zq_rd (a := cb) i rfl rfl]; exact ejb) ?_
        refine zq_in i rfl ?_
        refine nm_r (e' := nI x) (by rw [zq_rd (a := cc) i rfl rfl]; exact ex) ?_
        refine zq_xce hN hxN ?_
        refine br_f (by decide) ?_
        refine zq_in i rfl ?_
        refine zq_xget (r := a) hs20 ha4 (by rw [zq_rd (a := ca) i rfl ha]; exact zq_3m ha4) ?_
        refine zq_in t rfl ?_
        refine br_t (by rw [es, b2]) ?_
        refine zq_st ((t*5+1+d)*16+x) (rg ((t*5+1+d)*4+a)) (zq_16a _ x) rfl ?_
        refine zq_in (t*5+1+d) rfl ?_
        refine zq_st (t*5+1+d) (sw (t*5+1+d) ||| ((1 : Int32) <<< (nI x &&& 31))) rfl (by rw [zq_rd (a := sw) (t*5+1+d) rfl rfl]) ?_
        refine zq_in (t*5+1+d) rfl ?_
        exact zq_st (t*5+1+d) (nI (i+1)) rfl (by rw [hpc, nI_1]) h
      · refine zq_in t rfl ?_
        refine nm_r (zq_topY (zq_rd t rfl hd)) ?_
        refine zq_in (i*4+1) (zq_41 i) ?_
        refine nm_r (e' := nI ((t*5+1+d)*4+a)) (by rw [zq_rd (a := pg) (i*4+1) (zq_41 i) (g1.trans ha), zq_4a]) ?_
        refine zq_in (i*4+2) (zq_42 i) ?_
        refine zq_in ((t*5+1+d)*4+jb) e2 ?_
        refine zq_in (i*4+3) (zq_43 i) ?_
        refine nm_r (e' := nI x) (by rw [zq_rd (a := rg) ((t*5+1+d)*4+jb) e2 rfl, zq_rd (a := pg) (i*4+3) (zq_43 i) g3]; exact ex) ?_
        refine zq_yce hN hxN ?_
        refine br_f (by decide) ?_
        refine zq_in (i*4) (zq_4 i) ?_
        refine br_f (by rw [zq_rd (a := pg) (i*4) (zq_4 i) (g0.trans hk)]; decide) ?_
        refine zq_yib ht4 (fun _ => br_f (by decide) ?_) (fun z _ => absurd s2 z)
        refine zq_st ((t*5+1+d)*16+x) 1 (zq_16a _ x) zq_n1 ?_
        refine zq_in ((t*5+1+d)*4+a) rfl ?_
        refine zq_st ((t*5+1+d)*16+x) (rg ((t*5+1+d)*4+a)) (zq_16a _ x) rv ?_
        exact zq_st (t*5+1+d) (nI (i+1)) rfl (nI_1 i) h
end
end
section
section
variable {T N D L K : Nat} {co ca cb cc cv cr sg st dp sc rs rm mr pc sw rg sv pg rd ph pv wh wv : Nat → Int32}
-- Y: executeBlock up to its check of place
theorem zq_yblk {post : Int32 → SY → Prop} {t d i s : Nat} (k z0 z1 : Int32) (ht : t < 4) (hd : dp t = nI d) (hs : s = t*5+1+d) (hi : i < 64) (g0 : pg (i*4) = k) (g3 : pg (i*4+3) = cc i) (h0 : (k = 10 ∧ z0 = 1) ∨ (¬ k = 10 ∧ z0 = 0)) (h1 : (st t = 2 ∧ z1 = 1) ∨ (¬ st t = 2 ∧ ¬ st t = 3 ∧ z1 = 0)) (h : wY_executeBlock_52 post (nI t) (nI i) (nI s) k (cc i) z0 z1 (nI T) (nI N) (nI D) (nI L) (nI K) pg cv cr st dp sc rs mr rd pc rg ph pv wh wv) : wpY_executeBlock post (nI T, nI N, nI D, nI L, nI K, pg, cv, cr, st, dp, sc, rs, mr, rd, pc, rg, ph, pv, wh, wv) (nI t) (nI i) := by
  subst hs
  refine zq_in t rfl ?_
  refine nm_r (zq_topY (zq_rd t rfl hd)) ?_
  refine zq_in (i*4) (zq_4 i) ?_
  refine zq_nm (i*4) k (zq_4 i) g0 ?_
  refine zq_in (i*4+3) (zq_43 i) ?_
  refine zq_nm (i*4+3) (cc i) (zq_43 i) g3 ?_
  refine zq_yib ht (fun y => ?_) (fun y2 y3 => ?_)
  · have e1 : z1 = 1 := by
      rcases h1 with q | q
      · exact q.2
      · exact absurd y (fun z => z.elim q.1 q.2.1)
    subst e1
    refine br_c (fun c => ?_) (fun c => ?_)
    · have e0 : z0 = 1 := by
        rcases h0 with q | q
        · exact q.2
        · exact absurd c q.1
      subst e0
      exact h
    · have e0 : z0 = 0 := by
        rcases h0 with q | q
        · exact absurd q.1 c
        · exact q.2
      subst e0
      exact h
  · have e1 : z1 = 0 := by
      rcases h1 with q | q
      · exact absurd q.1 y2
      · exact q.2.2
    subst e1
    refine br_c (fun c => ?_) (fun c => ?_)
    · have e0 : z0 = 1 := by
        rcases h0 with q | q
        · exact q.2
        · exact absurd c q.1
      subst e0
      exact h
    · have e0 : z0 = 0 := by
        rcases h0 with q | q
        · exact absurd q.1 c
        · exact q.2
      subst e0
      exact h
theorem zq_yclean0 {post : SY → Prop} {t : Nat} {p : Int32} (hp : p = nI (t*5+1)) (ht : t < 4) (hb : ∀ x, x < 16 → ph ((t*5+1)*16+x) = 0 ∨ ph ((t*5+1)*16+x) = 1) (h : post (nI T, nI N, nI D, nI L, nI K, pg, cv, cr, st, upd dp t 0, upd sc t 0, rs, upd mr t 0, zq_fl rd (t*16) 16, pc, rg, zq_fl ph ((t*5+1)*16) 16, pv, wh, wv)) : wpY_clean post (nI T, nI N, nI D, nI L, nI K, pg, cv, cr, st, dp, sc, rs, mr, rd, pc, rg, ph, pv, wh, wv) (nI t) p := by
  refine zq_yclean (f := t*5+1) hp ht (by omega) hb ?_
  rw [zq_updI, zq_cpI, zq_cpI, zq_cpI]
  exact h
theorem zq_RL_clean0 (h : zq_RL T N D L K co ca cb cc st dp sc rm mr pc sw sv pg rd ph pv) {t : Nat} (ht : t < T) (s : Int32) {pc' : Nat → Int32} (hp : zq_P pc') : zq_RL T N D L K co ca cb cc (upd st t s) (upd dp t 0) (upd sc t 0) (upd rm t 0) (upd mr t 0) pc' (upd sw (t*5+1) 0) sv pg (zq_fl rd (t*16) 16) (zq_fl ph ((t*5+1)*16) 16) pv := by
  have e := zq_RL_clean h ht (t*5+1) s hp
  rw [zq_cpI, zq_cpI] at e
  exact e
-- op 10
theorem zq_jatomic (hR : zq_RL T N D L K co ca cb cc st dp sc rm mr pc sw sv pg rd ph pv) {t d i : Nat} {b : Int32} (ht : t < T) (hd : dp t = nI d) (hdD : d ≤ D) (hp : pc (t*5+1+d) = nI i) (hi : i < L) (hb : st t = b) (hbb : b = 1 ∨ b = 2) (hmk : mr t = 0) (hq : zq_lt b (sc t)) (hk : co i = nI 10) : zq_J (zq_re co t b) (fun post => wpX_doAtomic post (nI T, nI N, nI D, nI L, nI K, co, ca, cb, cc, cv, cr, sg, st, dp, sc, rs, rm, mr, pc, sw, rg, sv) (nI t)) (fun post => wpY_executeBlock post (nI T, nI N, nI D, nI L, nI K, pg, cv, cr, st, dp, sc, rs, mr, rd, pc, rg, ph, pv, wh, wv) (nI t) (nI i)) := by
  have hR0 := hR
  obtain ⟨hB, hC, hTT, hRd, hP, hS, hO⟩ := hR0
  have hT4 : T ≤ 4 := hB.1
  have hN : N ≤ 16 := hB.2.1
  have hD3 : D ≤ 3 := hB.2.2.1
  have hL : L ≤ 64 := hB.2.2.2.1
  have ht4 : t < 4 := by omega
  have hd3 : d ≤ 3 := by omega
  have hi64 : i < 64 := by omega
  have tt := hTT t ht4
  obtain ⟨g0, g1, g2, g3, hf⟩ := hC i hi
  have es : st (nI t).toNatClampNeg = b := zq_rd t rfl hb
  have esd : dp (nI t).toNatClampNeg = nI d := zq_rd t rfl hd
  have hpc : pc (nI (t*5+1+d)).toNatClampNeg = nI i := zq_rd (t*5+1+d) rfl hp
  rcases hbb with b1 | b2
  · have n2 : ¬ st t = 2 := by rw [hb, b1]; decide
    have n3 : ¬ st t = 3 := by rw [hb, b1]; decide
    obtain rfl : d = 0 := (nI_eq (by omega) (by omega)).mp (hd.symm.trans (tt.2.2.2.2.2 n2 n3).1)
    have hp1 : pc (t*5+1) = nI i := hp
    have hP1 : zq_P (upd (upd pc (t*5+1) (nI (i+1))) (t*5) (nI (i+1))) := zq_P_u (zq_P_u hP _ ⟨i+1, by omega, rfl⟩) _ ⟨i+1, by omega, rfl⟩
    have hR1 := zq_RL_clean0 hR ht 2 hP1
    have hS1 := zq_S_copy0 hR1.2.2.2.2.2.1 (f := t*5+1) (by omega) (t*5) pk_us (by rw [pk_un (by omega)]; exact hO t ht4)
    refine ⟨1, (nI T, nI N, nI D, nI L, nI K, co, ca, cb, cc, cv, cr, sg, upd st t 2, upd dp t 0, upd sc t 0, rs, upd rm t 0, upd mr t 0, upd (upd pc (t*5+1) (nI (i+1))) (t*5) (nI (i+1)), upd sw (t*5+1) 0, zq_cp 4 rg (t*5+1) (t*5) 4, sv), (nI T, nI N, nI D, nI L, nI K, pg, cv, cr, upd st t 2, upd dp t 0, upd sc t 0, rs, upd mr t 0, zq_fl rd (t*16) 16, upd (upd pc (t*5+1) (nI (i+1))) (t*5) (nI (i+1)), zq_cp 4 rg (t*5+1) (t*5) 4, zq_cp 16 (zq_fl ph ((t*5+1)*16) 16) (t*5+1) (t*5) 16, zq_cp 16 pv (t*5+1) (t*5) 16, wh, wv), zq_re_mk ⟨hR1.1, hR1.2.1, hR1.2.2.1, hR1.2.2.2.1, hP1, hS1, hR1.2.2.2.2.2.2⟩ (zq_lt0 pk_us), fun post h => ?_, fun post h => ?_⟩
    · refine zq_in t rfl ?_
      refine br_f (by rw [es, b1]; decide) ?_
      refine nm_r (zq_5 t) ?_
      refine nm_r (nI_1 (t*5)) ?_
      refine zq_xdrop ht4 ?_
      refine zq_in (t*5+1) rfl ?_
      refine zq_st (t*5+1) (nI (i+1)) rfl (by rw [zq_rd (a := pc) (t*5+1) rfl hp1, nI_1]) ?_
      refine zq_xcr (f := t*5+1) (t := t*5) (by omega) (by omega) ?_
      refine zq_in (t*5+1) rfl ?_
      refine zq_st (t*5) (nI (i+1)) rfl (zq_rd (t*5+1) rfl pk_us) ?_
      exact zq_st t 2 rfl rfl h
    · refine zq_yblk (s := t*5+1) 10 1 0 ht4 hd rfl hi64 (g0.trans hk) g3 (Or.inl ⟨rfl, rfl⟩) (Or.inr ⟨n2, n3, rfl⟩) ?_
      refine br_f (by decide) ?_
      refine br_t rfl ?_
      refine zq_st (t*5+1) (nI (i+1)) rfl (nI_1 i) ?_
      refine zq_yclean0 rfl ht4 (zq_S01 hS (by omega)) ?_
      refine zq_ycs (f := t*5+1) (t := t*5) rfl (zq_5 t) (by omega) (by omega) (fun x hx => Or.inl (zq_flT _ _ hx)) ?_
      rw [pk_us]
      exact zq_st t 2 rfl rfl h
  · have s2 : st t = 2 := hb.trans b2
    obtain ⟨u, v, hre, hX, hY⟩ := zq_jfail (cv := cv) (cr := cr) (sg := sg) (rs := rs) (rg := rg) (wh := wh) (wv := wv) hR ht b 7
    refine ⟨6, u, v, hre, fun post h => ?_, fun post h => ?_⟩
    · refine zq_in t rfl ?_
      exact br_t (by rw [es, b2]) (hX _ (zq_xe h))
    · refine zq_yblk (s := t*5+1+d) 10 1 1 ht4 hd rfl hi64 (g0.trans hk) g3 (Or.inl ⟨rfl, rfl⟩) (Or.inl ⟨s2, rfl⟩) ?_
      exact br_t rfl (hY _ (zq_ye h))
-- op 11: the sets to publish
theorem zq_x35 {post : Int32 → SX → Prop} {t h : Nat} (hh : h < 20) (hE : ∀ n, wX_doCommit_35 post (nI t) (nI h) (nI T) (nI N) (nI D) (nI L) (nI K) (n + 1) (nI 16) co ca cb cc cv cr (zq_sl sg sv (h*16) 16) st dp sc rs rm mr pc sw rg sv) : ∀ d j : Nat, j + d = 16 → wX_doCommit_35 post (nI t) (nI h) (nI T) (nI N) (nI D) (nI L) (nI K) (d + 1) (nI j) co ca cb cc cv cr (zq_sl sg sv (h*16) j) st dp sc rs rm mr pc sw rg sv := by
  intro d
  induction d with
  | zero =>
    intro j hj
    obtain rfl : j = 16 := by omega
    exact hE 0
  | succ d ih =>
    intro j hj
    have ih' := ih (j + 1) (by omega)
    rw [← zq_sls] at ih'
    refine br_f (nI_ge (b := 16) (by omega) (by omega)) ?_
    refine zq_in (h*16+j) (zq_16a h j) ?_
    refine zq_st j (sv (h*16+j)) rfl (zq_rd _ (zq_16a h j) rfl) ?_
    exact nm_r (nI_1 j) ih'
theorem zq_y129 {post : Int32 → SY → Prop} {t i h : Nat} (hh : h < 20) (hb : ∀ x, x < 16 → ph (h*16+x) = 0 ∨ ph (h*16+x) = 1) (hE : ∀ n, wY_executeBlock_129 post (nI t) (nI i) (nI h) (nI T) (nI N) (nI D) (nI L) (nI K) (n + 1) (nI 16) pg cv cr st dp sc rs mr rd pc rg ph pv (zq_sl wh ph (h*16) 16) (zq_sl wv pv (h*16) 16)) : ∀ d j : Nat, j + d = 16 → wY_executeBlock_129 post (nI t) (nI i) (nI h) (nI T) (nI N) (nI D) (nI L) (nI K) (d + 1) (nI j) pg cv cr st dp sc rs mr rd pc rg ph pv (zq_sl wh ph (h*16) j) (zq_sl wv pv (h*16) j) := by
  intro d
  induction d with
  | zero =>
    intro j hj
    obtain rfl : j = 16 := by omega
    exact hE 0
  | succ d ih =>
    intro j hj
    have ih' := ih (j + 1) (by omega)
    rw [← zq_sls wh ph, ← zq_sls wv pv] at ih'
    refine br_f (nI_ge (b := 16) (by omega) (by omega)) ?_
    refine zq_in (h*16+j) (zq_16a h j) ?_
    refine zq_st j (ph (h*16+j)) rfl (by rw [zq_rd (a := ph) (h*16+j) (zq_16a h j) rfl]; exact zq_nb (hb j (by omega))) ?_
    refine zq_in (h*16+j) (zq_16a h j) ?_
    refine zq_st j (pv (h*16+j)) rfl (zq_rd _ (zq_16a h j) rfl) ?_
    exact nm_r (nI_1 j) ih'
theorem zq_jcommit (hR : zq_RL T N D L K co ca cb cc st dp sc rm mr pc sw sv pg rd ph pv) {t d i : Nat} {b : Int32} (ht : t < T) (hd : dp t = nI d) (hdD : d ≤ D) (hp : pc (t*5+1+d) = nI i) (hi : i < L) (hb : st t = b) (hbb : b = 1 ∨ b = 2) (hmk : mr t = 0) (hq : zq_lt b (sc t)) (hk : co i = nI 11) : zq_J (zq_re co t b) (fun post => wpX_doCommit post (nI T, nI N, nI D, nI L, nI K, co, ca, cb, cc, cv, cr, sg, st, dp, sc, rs, rm, mr, pc, sw, rg, sv) (nI t)) (fun post => wpY_executeBlock post (nI T, nI N, nI D, nI L, nI K, pg, cv, cr, st, dp, sc, rs, mr, rd, pc, rg, ph, pv, wh, wv) (nI t) (nI i)) := by
  have hR0 := hR
  obtain ⟨hB, hC, hTT, hRd, hP, hS, hO⟩ := hR0
  have hT4 : T ≤ 4 := hB.1
  have hN : N ≤ 16 := hB.2.1
  have hD3 : D ≤ 3 := hB.2.2.1
  have hL : L ≤ 64 := hB.2.2.2.1
  have ht4 : t < 4 := by omega
  have hd3 : d ≤ 3 := by omega
  have hi64 : i < 64 := by omega
  have tt := hTT t ht4
  obtain ⟨g0, g1, g2, g3, hf⟩ := hC i hi
  have es : st (nI t).toNatClampNeg = b := zq_rd t rfl hb
  have esd : dp (nI t).toNatClampNeg = nI d := zq_rd t rfl hd
  have hpc : pc (nI (t*5+1+d)).toNatClampNeg = nI i := zq_rd (t*5+1+d) rfl hp
  rcases hbb with b1 | b2
  · have n2 : ¬ st t = 2 := by rw [hb, b1]; decide
    have n3 : ¬ st t = 3 := by rw [hb, b1]; decide
    obtain ⟨u, v, hre, hX, hY⟩ := zq_jfail (cv := cv) (cr := cr) (sg := sg) (rs := rs) (rg := rg) (wh := wh) (wv := wv) hR ht b 7
    refine ⟨6, u, v, hre, fun post h => ?_, fun post h => ?_⟩
    · refine zq_in t rfl ?_
      exact br_f (by rw [es, b1]; decide) (hX _ (zq_xe h))
    · refine zq_yblk (s := t*5+1+d) 11 0 0 ht4 hd rfl hi64 (g0.trans hk) g3 (Or.inr ⟨by decide, rfl⟩) (Or.inr ⟨n2, n3, rfl⟩) ?_
      exact br_t rfl (hY _ (zq_ye h))
  · have s2 : st t = 2 := hb.trans b2
    by_cases hd0 : d = 0
    · subst hd0
      have hp1 : pc (t*5+1) = nI i := hp
      have hh : t*5+1 < 20 := by omega
      have hm : ∀ y, y < 16 → zq_sl wh ph ((t*5+1)*16) 16 y = zq_bz (bt (sw (t*5+1)) y) := fun y hy => (if_pos hy).trans (hS (t*5+1) hh y hy).1
      have hv : ∀ y, y < 16 → bt (sw (t*5+1)) y = true → y < N ∧ zq_sl sg sv ((t*5+1)*16) 16 y = zq_sl wv pv ((t*5+1)*16) 16 y := fun y hy e => ⟨((hS (t*5+1) hh y hy).2 e).1, (if_pos hy).trans (((hS (t*5+1) hh y hy).2 e).2.trans (if_pos hy).symm)⟩
      obtain ⟨r, K', cv', cr', st', dp', sc', rs', rm', mr', pc', sw', rg', rd', ph', pv', wh', hR', hr, hF, hX, hY⟩ := zq_pub (cv := cv) (cr := cr) (rs := rs) (rg := rg) hR (nI t) hm hv
      have hFt := hF t ht4 rfl
      have hp' : pc' (t*5+1) = nI i := (hFt.2.2.2 (t*5+1) (by omega) (by omega)).trans hp1
      rcases hr with r0 | r1
      · obtain ⟨u, v, hre, hfX, hfY⟩ := zq_jfail (cv := cv') (cr := cr') (sg := zq_sl sg sv ((t*5+1)*16) 16) (rs := rs') (rg := rg') (wh := wh') (wv := zq_sl wv pv ((t*5+1)*16) 16) hR' ht b 10
        refine ⟨6, u, v, hre, fun post h => ?_, fun post h => ?_⟩
        · refine zq_in t rfl ?_
          refine br_t (by rw [es, b2]) ?_
          refine zq_in t rfl ?_
          refine br_t (by rw [esd]; exact nI_le (a := 0) (b := 0) (by omega) (by omega)) ?_
          refine nm_r (zq_51 t) ?_
          have e := zq_x35 (post := post) (t := t) (T := T) (N := N) (D := D) (L := L) (K := K) (co := co) (ca := ca) (cb := cb) (cc := cc) (cv := cv) (cr := cr) (sg := sg) (st := st) (dp := dp) (sc := sc) (rs := rs) (rm := rm) (mr := mr) (pc := pc) (sw := sw) (rg := rg) (sv := sv) hh (fun n => br_t (nI_le (a := 16) (b := 16) (by omega) (by omega)) (zq_in (t*5+1) rfl (by rw [zq_rd (a := sw) (t*5+1) rfl rfl]; exact hX _ (br_t r0 (hfX _ (zq_xe h)))))) 16 0 rfl
          rw [zq_sl0] at e
          exact ⟨17, e⟩
        · refine zq_yblk (s := t*5+1) 11 0 1 ht4 hd rfl hi64 (g0.trans hk) g3 (Or.inr ⟨by decide, rfl⟩) (Or.inl ⟨s2, rfl⟩) ?_
          refine br_f (by decide) ?_
          refine br_f (by decide) ?_
          refine br_t rfl ?_
          refine zq_in t rfl ?_
          refine br_t (by rw [esd]; exact nI_le (a := 0) (b := 0) (by omega) (by omega)) ?_
          have e := zq_y129 (post := post) (t := t) (i := i) (T := T) (N := N) (D := D) (L := L) (K := K) (pg := pg) (cv := cv) (cr := cr) (st := st) (dp := dp) (sc := sc) (rs := rs) (mr := mr) (rd := rd) (pc := pc) (rg := rg) (ph := ph) (pv := pv) (wh := wh) (wv := wv) hh (zq_S01 hS hh) (fun n => br_t (nI_le (a := 16) (b := 16) (by omega) (by omega)) (hY _ (br_t r0 (hfY _ (zq_ye h))))) 16 0 rfl
          rw [zq_sl0, zq_sl0] at e
          exact ⟨17, e⟩
      · have hP1 : zq_P (upd pc' (t*5+1) (nI (i+1))) := zq_P_u hR'.2.2.2.2.1 _ ⟨i+1, by omega, rfl⟩
        have hR1 := zq_RL_clean0 hR' ht 1 hP1
        refine ⟨2, (nI T, nI N, nI D, nI L, nI K', co, ca, cb, cc, cv', cr', zq_sl sg sv ((t*5+1)*16) 16, upd st' t 1, upd dp' t 0, upd sc' t 0, rs', upd rm' t 0, upd mr' t 0, upd pc' (t*5+1) (nI (i+1)), upd sw' (t*5+1) 0, rg', sv), (nI T, nI N, nI D, nI L, nI K', pg, cv', cr', upd st' t 1, upd dp' t 0, upd sc' t 0, rs', upd mr' t 0, zq_fl rd' (t*16) 16, upd pc' (t*5+1) (nI (i+1)), rg', zq_fl ph' ((t*5+1)*16) 16, pv', wh', zq_sl wv pv ((t*5+1)*16) 16), zq_re_mk hR1 (zq_lt0 pk_us), fun post h => ?_, fun post h => ?_⟩
        · refine zq_in t rfl ?_
          refine br_t (by rw [es, b2]) ?_
          refine zq_in t rfl ?_
          refine br_t (by rw [esd]; exact nI_le (a := 0) (b := 0) (by omega) (by omega)) ?_
          refine nm_r (zq_51 t) ?_
          have e := zq_x35 (post := post) (t := t) (T := T) (N := N) (D := D) (L := L) (K := K) (co := co) (ca := ca) (cb := cb) (cc := cc) (cv := cv) (cr := cr) (sg := sg) (st := st) (dp := dp) (sc := sc) (rs := rs) (rm := rm) (mr := mr) (pc := pc) (sw := sw) (rg := rg) (sv := sv) hh (fun n => br_t (nI_le (a := 16) (b := 16) (by omega) (by omega)) (zq_in (t*5+1) rfl (by
            rw [zq_rd (a := sw) (t*5+1) rfl rfl]
            refine hX _ ?_
            refine br_f (by rw [r1]; decide) ?_
            refine zq_xdrop ht4 ?_
            refine zq_st t 1 rfl rfl ?_
            refine zq_in (t*5+1) rfl ?_
            exact zq_st (t*5+1) (nI (i+1)) rfl (by rw [zq_rd (a := pc') (t*5+1) rfl hp', nI_1]) h))) 16 0 rfl
          rw [zq_sl0] at e
          exact ⟨17, e⟩
        · refine zq_yblk (s := t*5+1) 11 0 1 ht4 hd rfl hi64 (g0.trans hk) g3 (Or.inr ⟨by decide, rfl⟩) (Or.inl ⟨s2, rfl⟩) ?_
          refine br_f (by decide) ?_
          refine br_f (by decide) ?_
          refine br_t rfl ?_
          refine zq_in t rfl ?_
          refine br_t (by rw [esd]; exact nI_le (a := 0) (b := 0) (by omega) (by omega)) ?_
          have e := zq_y129 (post := post) (t := t) (i := i) (T := T) (N := N) (D := D) (L := L) (K := K) (pg := pg) (cv := cv) (cr := cr) (st := st) (dp := dp) (sc := sc) (rs := rs) (mr := mr) (rd := rd) (pc := pc) (rg := rg) (ph := ph) (pv := pv) (wh := wh) (wv := wv) hh (zq_S01 hS hh) (fun n => br_t (nI_le (a := 16) (b := 16) (by omega) (by omega)) (by
            refine hY _ ?_
            refine br_f (by rw [r1]; decide) ?_
            refine zq_st (t*5+1) (nI (i+1)) rfl (nI_1 i) ?_
            refine zq_yclean0 rfl ht4 (zq_S01 hR'.2.2.2.2.2.1 hh) ?_
            exact zq_st t 1 rfl rfl h)) 16 0 rfl
          rw [zq_sl0, zq_sl0] at e
          exact ⟨17, e⟩
    · obtain ⟨u, v, hre, hX, hY⟩ := zq_jfail (cv := cv) (cr := cr) (sg := sg) (rs := rs) (rg := rg) (wh := wh) (wv := wv) hR ht b 7
      refine ⟨6, u, v, hre, fun post h => ?_, fun post h => ?_⟩
      · refine zq_in t rfl ?_
        refine br_t (by rw [es, b2]) ?_
        refine zq_in t rfl ?_
        exact br_f (by rw [esd]; exact nI_nle (by omega) (by omega)) (hX _ (zq_xe h))
      · refine zq_yblk (s := t*5+1+d) 11 0 1 ht4 hd rfl hi64 (g0.trans hk) g3 (Or.inr ⟨by decide, rfl⟩) (Or.inl ⟨s2, rfl⟩) ?_
        refine br_f (by decide) ?_
        refine br_f (by decide) ?_
        refine br_t rfl ?_
        refine zq_in t rfl ?_
        exact br_f (by rw [esd]; exact nI_nle (by omega) (by omega)) (hY _ (zq_ye h))
-- op 12
theorem zq_jorelse (hR : zq_RL T N D L K co ca cb cc st dp sc rm mr pc sw sv pg rd ph pv) {t d i : Nat} {b : Int32} (ht : t < T) (hd : dp t = nI d) (hdD : d ≤ D) (hp : pc (t*5+1+d) = nI i) (hi : i < L) (hb : st t = b) (hbb : b = 1 ∨ b = 2) (hmk : mr t = 0) (hq : zq_lt b (sc t)) (hk : co i = nI 12) : zq_J (zq_re co t b) (fun post => wpX_doOrElse post (nI T, nI N, nI D, nI L, nI K, co, ca, cb, cc, cv, cr, sg, st, dp, sc, rs, rm, mr, pc, sw, rg, sv) (nI t) (cc i)) (fun post => wpY_executeBlock post (nI T, nI N, nI D, nI L, nI K, pg, cv, cr, st, dp, sc, rs, mr, rd, pc, rg, ph, pv, wh, wv) (nI t) (nI i)) := by
  have hR0 := hR
  obtain ⟨hB, hC, hTT, hRd, hP, hS, hO⟩ := hR0
  have hT4 : T ≤ 4 := hB.1
  have hN : N ≤ 16 := hB.2.1
  have hD3 : D ≤ 3 := hB.2.2.1
  have hL : L ≤ 64 := hB.2.2.2.1
  have ht4 : t < 4 := by omega
  have hd3 : d ≤ 3 := by omega
  have hi64 : i < 64 := by omega
  have tt := hTT t ht4
  obtain ⟨g0, g1, g2, g3, hf⟩ := hC i hi
  have es : st (nI t).toNatClampNeg = b := zq_rd t rfl hb
  have esd : dp (nI t).toNatClampNeg = nI d := zq_rd t rfl hd
  have hpc : pc (nI (t*5+1+d)).toNatClampNeg = nI i := zq_rd (t*5+1+d) rfl hp
  obtain ⟨k', hk14, hk', fa, fb, fc, fj⟩ := hf
  obtain rfl : 12 = k' := (nI_eq (by omega) (by omega)).mp (hk.symm.trans hk')
  obtain ⟨j, hj, hc'⟩ := fj (by unfold zq_uj; omega)
  rcases hbb with b1 | b2
  · have n2 : ¬ st t = 2 := by rw [hb, b1]; decide
    have n3 : ¬ st t = 3 := by rw [hb, b1]; decide
    obtain ⟨u, v, hre, hX, hY⟩ := zq_jfail (cv := cv) (cr := cr) (sg := sg) (rs := rs) (rg := rg) (wh := wh) (wv := wv) hR ht b 7
    refine ⟨6, u, v, hre, fun post h => ?_, fun post h => ?_⟩
    · refine zq_in t rfl ?_
      exact br_f (by rw [es, b1]; decide) (hX _ (zq_xe h))
    · refine zq_yblk (s := t*5+1+d) 12 0 0 ht4 hd rfl hi64 (g0.trans hk) g3 (Or.inr ⟨by decide, rfl⟩) (Or.inr ⟨n2, n3, rfl⟩) ?_
      exact br_t rfl (hY _ (zq_ye h))
  · have s2 : st t = 2 := hb.trans b2
    by_cases hlt : d < D
    · have hs20 : t*5+1+d < 20 := by omega
      have hP1 : zq_P (upd (upd pc (t*5+1+d+1) (nI (i+1))) (t*5+1+d) (cc i)) := zq_P_u (zq_P_u hP _ ⟨i+1, by omega, rfl⟩) _ ⟨j, by omega, hc'⟩
      have hT1 : zq_T T D st (upd dp t (nI (d+1))) sc rm mr := zq_T_dp hTT (fun _ => ⟨tt.1, ⟨d+1, by omega, rfl⟩, tt.2.2.1, tt.2.2.2.1, tt.2.2.2.2.1, fun z => absurd s2 z⟩)
      refine ⟨1, (nI T, nI N, nI D, nI L, nI K, co, ca, cb, cc, cv, cr, sg, st, upd dp t (nI (d+1)), sc, rs, rm, mr, upd (upd pc (t*5+1+d+1) (nI (i+1))) (t*5+1+d) (cc i), upd sw (t*5+1+d+1) (sw (t*5+1+d)), zq_cp 4 rg (t*5+1+d) (t*5+1+d+1) 4, zq_cp 16 sv (t*5+1+d) (t*5+1+d+1) 16), (nI T, nI N, nI D, nI L, nI K, pg, cv, cr, st, upd dp t (nI (d+1)), sc, rs, mr, rd, upd (upd pc (t*5+1+d+1) (nI (i+1))) (t*5+1+d) (cc i), zq_cp 4 rg (t*5+1+d) (t*5+1+d+1) 4, zq_cp 16 ph (t*5+1+d) (t*5+1+d+1) 16, zq_cp 16 pv (t*5+1+d) (t*5+1+d+1) 16, wh, wv), zq_re_mk ⟨hB, hC, hT1, hRd, hP1, zq_S_copy hS hs20 _, zq_O_u hO (fun y hy => by omega) _⟩ hq, fun post h => ?_, fun post h => ?_⟩
      · refine zq_in t rfl ?_
        refine br_t (by rw [es, b2]) ?_
        refine zq_in t rfl ?_
        refine br_t (by rw [esd]; exact nI_lt hlt (by omega)) ?_
        refine zq_xtop ht4 hd ?_
        refine nm_r (nI_1 _) ?_
        refine zq_xcr (f := t*5+1+d) (t := t*5+1+d+1) hs20 (by omega) ?_
        refine zq_xcw (f := t*5+1+d) (t := t*5+1+d+1) hs20 (by omega) ?_
        refine zq_in (t*5+1+d) rfl ?_
        refine zq_st (t*5+1+d+1) (nI (i+1)) rfl (by rw [hpc, nI_1]) ?_
        refine zq_st (t*5+1+d) (cc i) rfl rfl ?_
        refine zq_in t rfl ?_
        exact zq_st t (nI (d+1)) rfl (by rw [esd, nI_1]) h
      · refine zq_yblk (s := t*5+1+d) 12 0 1 ht4 hd rfl hi64 (g0.trans hk) g3 (Or.inr ⟨by decide, rfl⟩) (Or.inl ⟨s2, rfl⟩) ?_
        refine br_f (by decide) ?_
        refine br_f (by decide) ?_
        refine br_f (by decide) ?_
        refine br_t rfl ?_
        refine zq_in t rfl ?_
        refine br_t (by rw [esd]; exact nI_lt hlt (by omega)) ?_
        refine zq_ycs (f := t*5+1+d) (t := t*5+1+d+1) rfl (nI_1 _) hs20 (by omega) (zq_S01 hS hs20) ?_
        refine zq_st (t*5+1+d) (cc i) rfl rfl ?_
        refine zq_st (t*5+1+d+1) (nI (i+1)) (nI_1 _) (nI_1 i) ?_
        rw [zq_updC _ _ _ (show t*5+1+d ≠ t*5+1+d+1 by omega), zq_upd2]
        refine zq_in t rfl ?_
        exact zq_st t (nI (d+1)) rfl (by rw [esd, nI_1]) h
    · obtain ⟨u, v, hre, hX, hY⟩ := zq_jfail (cv := cv) (cr := cr) (sg := sg) (rs := rs) (rg := rg) (wh := wh) (wv := wv) hR ht b 8
      refine ⟨6, u, v, hre, fun post h => ?_, fun post h => ?_⟩
      · refine zq_in t rfl ?_
        refine br_t (by rw [es, b2]) ?_
        refine zq_in t rfl ?_
        exact br_f (by rw [esd]; exact nI_nlt (by omega) (by omega)) (hX _ (zq_xe h))
      · refine zq_yblk (s := t*5+1+d) 12 0 1 ht4 hd rfl hi64 (g0.trans hk) g3 (Or.inr ⟨by decide, rfl⟩) (Or.inl ⟨s2, rfl⟩) ?_
        refine br_f (by decide) ?_
        refine br_f (by decide) ?_
        refine br_f (by decide) ?_
        refine br_t rfl ?_
        refine zq_in t rfl ?_
        exact br_f (by rw [esd]; exact nI_nlt (by omega) (by omega)) (hY _ (zq_ye h))
-- op 13
theorem zq_jjoin (hR : zq_RL T N D L K co ca cb cc st dp sc rm mr pc sw sv pg rd ph pv) {t d i : Nat} {b : Int32} (ht : t < T) (hd : dp t = nI d) (hdD : d ≤ D) (hp : pc (t*5+1+d) = nI i) (hi : i < L) (hb : st t = b) (hbb : b = 1 ∨ b = 2) (hmk : mr t = 0) (hq : zq_lt b (sc t)) (hk : co i = nI 13) : zq_J (zq_re co t b) (fun post => wpX_doJoin post (nI T, nI N, nI D, nI L, nI K, co, ca, cb, cc, cv, cr, sg, st, dp, sc, rs, rm, mr, pc, sw, rg, sv) (nI t) (cc i)) (fun post => wpY_executeBlock post (nI T, nI N, nI D, nI L, nI K, pg, cv, cr, st, dp, sc, rs, mr, rd, pc, rg, ph, pv, wh, wv) (nI t) (nI i)) := by
  have hR0 := hR
  obtain ⟨hB, hC, hTT, hRd, hP, hS, hO⟩ := hR0
  have hT4 : T ≤ 4 := hB.1
  have hN : N ≤ 16 := hB.2.1
  have hD3 : D ≤ 3 := hB.2.2.1
  have hL : L ≤ 64 := hB.2.2.2.1
  have ht4 : t < 4 := by omega
  have hd3 : d ≤ 3 := by omega
  have hi64 : i < 64 := by omega
  have tt := hTT t ht4
  obtain ⟨g0, g1, g2, g3, hf⟩ := hC i hi
  have es : st (nI t).toNatClampNeg = b := zq_rd t rfl hb
  have esd : dp (nI t).toNatClampNeg = nI d := zq_rd t rfl hd
  have hpc : pc (nI (t*5+1+d)).toNatClampNeg = nI i := zq_rd (t*5+1+d) rfl hp
  obtain ⟨k', hk14, hk', fa, fb, fc, fj⟩ := hf
  obtain rfl : 13 = k' := (nI_eq (by omega) (by omega)).mp (hk.symm.trans hk')
  obtain ⟨j, hj, hc'⟩ := fj (by unfold zq_uj; omega)
  rcases hbb with b1 | b2
  · have n2 : ¬ st t = 2 := by rw [hb, b1]; decide
    have n3 : ¬ st t = 3 := by rw [hb, b1]; decide
    obtain ⟨u, v, hre, hX, hY⟩ := zq_jfail (cv := cv) (cr := cr) (sg := sg) (rs := rs) (rg := rg) (wh := wh) (wv := wv) hR ht b 7
    refine ⟨6, u, v, hre, fun post h => ?_, fun post h => ?_⟩
    · refine zq_in t rfl ?_
      exact br_f (by rw [es, b1]; decide) (hX _ (zq_xe h))
    · refine zq_yblk (s := t*5+1+d) 13 0 0 ht4 hd rfl hi64 (g0.trans hk) g3 (Or.inr ⟨by decide, rfl⟩) (Or.inr ⟨n2, n3, rfl⟩) ?_
      exact br_t rfl (hY _ (zq_ye h))
  · have s2 : st t = 2 := hb.trans b2
    cases d with
    | zero =>
      obtain ⟨u, v, hre, hX, hY⟩ := zq_jfail (cv := cv) (cr := cr) (sg := sg) (rs := rs) (rg := rg) (wh := wh) (wv := wv) hR ht b 7
      refine ⟨6, u, v, hre, fun post h => ?_, fun post h => ?_⟩
      · refine zq_in t rfl ?_
        refine br_t (by rw [es, b2]) ?_
        refine zq_in t rfl ?_
        exact br_f (by rw [esd]; decide) (hX _ (zq_xe h))
      · refine zq_yblk (s := t*5+1+0) 13 0 1 ht4 hd rfl hi64 (g0.trans hk) g3 (Or.inr ⟨by decide, rfl⟩) (Or.inl ⟨s2, rfl⟩) ?_
        refine br_f (by decide) ?_
        refine br_f (by decide) ?_
        refine br_f (by decide) ?_
        refine br_f (by decide) ?_
        refine br_t rfl ?_
        refine zq_in t rfl ?_
        exact br_t esd (hY _ (zq_ye h))
    | succ e =>
      have hs20 : t*5+1+e+1 < 20 := by omega
      have hP1 : zq_P (upd pc (t*5+1+e) (cc i)) := zq_P_u hP _ ⟨j, by omega, hc'⟩
      have hT1 : zq_T T D st (upd dp t (nI e)) sc rm mr := zq_T_dp hTT (fun _ => ⟨tt.1, ⟨e, by omega, rfl⟩, tt.2.2.1, tt.2.2.2.1, tt.2.2.2.2.1, fun z => absurd s2 z⟩)
      refine ⟨1, (nI T, nI N, nI D, nI L, nI K, co, ca, cb, cc, cv, cr, sg, st, upd dp t (nI e), sc, rs, rm, mr, upd pc (t*5+1+e) (cc i), upd sw (t*5+1+e) (sw (t*5+1+e+1)), zq_cp 4 rg (t*5+1+e+1) (t*5+1+e) 4, zq_cp 16 sv (t*5+1+e+1) (t*5+1+e) 16), (nI T, nI N, nI D, nI L, nI K, pg, cv, cr, st, upd dp t (nI e), sc, rs, mr, rd, upd pc (t*5+1+e) (cc i), zq_cp 4 rg (t*5+1+e+1) (t*5+1+e) 4, zq_cp 16 ph (t*5+1+e+1) (t*5+1+e) 16, zq_cp 16 pv (t*5+1+e+1) (t*5+1+e) 16, wh, wv), zq_re_mk ⟨hB, hC, hT1, hRd, hP1, zq_S_copy hS hs20 _, zq_O_u hO (fun y hy => by omega) _⟩ hq, fun post h => ?_, fun post h => ?_⟩
      · refine zq_in t rfl ?_
        refine br_t (by rw [es, b2]) ?_
        refine zq_in t rfl ?_
        refine br_t (by rw [esd]; exact nI_lt (a := 0) (by omega) (by omega)) ?_
        refine zq_xtop ht4 hd ?_
        refine nm_r (nI_pred (t*5+1+e)) ?_
        refine zq_xcr (f := t*5+1+e+1) (t := t*5+1+e) hs20 (by omega) ?_
        refine zq_xcw (f := t*5+1+e+1) (t := t*5+1+e) hs20 (by omega) ?_
        refine zq_st (t*5+1+e) (cc i) rfl rfl ?_
        refine zq_in t rfl ?_
        exact zq_st t (nI e) rfl (by rw [esd]; exact nI_pred e) h
      · refine zq_yblk (s := t*5+1+e+1) 13 0 1 ht4 hd rfl hi64 (g0.trans hk) g3 (Or.inr ⟨by decide, rfl⟩) (Or.inl ⟨s2, rfl⟩) ?_
        refine br_f (by decide) ?_
        refine br_f (by decide) ?_
        refine br_f (by decide) ?_
        refine br_f (by decide) ?_
        refine br_t rfl ?_
        refine zq_in t rfl ?_
        refine br_f (by rw [esd]; exact nI_ne0 (by omega) (by omega)) ?_
        refine zq_ycs (f := t*5+1+e+1) (t := t*5+1+e) rfl (nI_pred _) hs20 (by omega) (zq_S01 hS hs20) ?_
        refine zq_st (t*5+1+e) (cc i) (nI_pred _) rfl ?_
        rw [zq_upd2]
        refine zq_in t rfl ?_
        exact zq_st t (nI e) rfl (by rw [esd]; exact nI_pred e) h
-- op 14
theorem zq_jretry (hR : zq_RL T N D L K co ca cb cc st dp sc rm mr pc sw sv pg rd ph pv) {t d i : Nat} {b : Int32} (ht : t < T) (hd : dp t = nI d) (hdD : d ≤ D) (hp : pc (t*5+1+d) = nI i) (hi : i < L) (hb : st t = b) (hbb : b = 1 ∨ b = 2) (hmk : mr t = 0) (hq : zq_lt b (sc t)) (hk : co i = nI 14) : zq_J (zq_re co t b) (fun post => wpX_doRetry post (nI T, nI N, nI D, nI L, nI K, co, ca, cb, cc, cv, cr, sg, st, dp, sc, rs, rm, mr, pc, sw, rg, sv) (nI t)) (fun post => wpY_executeBlock post (nI T, nI N, nI D, nI L, nI K, pg, cv, cr, st, dp, sc, rs, mr, rd, pc, rg, ph, pv, wh, wv) (nI t) (nI i)) := by
  have hR0 := hR
  obtain ⟨hB, hC, hTT, hRd, hP, hS, hO⟩ := hR0
  have hT4 : T ≤ 4 := hB.1
  have hN : N ≤ 16 := hB.2.1
  have hD3 : D ≤ 3 := hB.2.2.1
  have hL : L ≤ 64 := hB.2.2.2.1
  have ht4 : t < 4 := by omega
  have hd3 : d ≤ 3 := by omega
  have hi64 : i < 64 := by omega
  have tt := hTT t ht4
  obtain ⟨g0, g1, g2, g3, hf⟩ := hC i hi
  have es : st (nI t).toNatClampNeg = b := zq_rd t rfl hb
  have esd : dp (nI t).toNatClampNeg = nI d := zq_rd t rfl hd
  have hpc : pc (nI (t*5+1+d)).toNatClampNeg = nI i := zq_rd (t*5+1+d) rfl hp
  rcases hbb with b1 | b2
  · have n2 : ¬ st t = 2 := by rw [hb, b1]; decide
    have n3 : ¬ st t = 3 := by rw [hb, b1]; decide
    obtain ⟨u, v, hre, hX, hY⟩ := zq_jfail (cv := cv) (cr := cr) (sg := sg) (rs := rs) (rg := rg) (wh := wh) (wv := wv) hR ht b 7
    refine ⟨6, u, v, hre, fun post h => ?_, fun post h => ?_⟩
    · refine zq_in t rfl ?_
      exact br_f (by rw [es, b1]; decide) (hX _ (zq_xe h))
    · refine zq_yblk (s := t*5+1+d) 14 0 0 ht4 hd rfl hi64 (g0.trans hk) g3 (Or.inr ⟨by decide, rfl⟩) (Or.inr ⟨n2, n3, rfl⟩) ?_
      exact br_t rfl (hY _ (zq_ye h))
  · have s2 : st t = 2 := hb.trans b2
    cases d with
    | zero =>
      refine ⟨4, (nI T, nI N, nI D, nI L, nI K, co, ca, cb, cc, cv, cr, sg, upd st t 3, dp, sc, rs, rm, mr, pc, sw, rg, sv), (nI T, nI N, nI D, nI L, nI K, pg, cv, cr, upd st t 3, dp, sc, rs, mr, rd, pc, rg, ph, pv, wh, wv), zq_re_mk ⟨hB, hC, zq_T_st hTT (fun _ => ⟨fun z => by omega, tt.2.1, tt.2.2.1, tt.2.2.2.1, fun _ => hmk, fun _ z => absurd rfl z⟩), hRd, hP, hS, hO⟩ hq, fun post h => ?_, fun post h => ?_⟩
      · refine zq_in t rfl ?_
        refine br_t (by rw [es, b2]) ?_
        refine zq_in t rfl ?_
        refine br_t (by rw [esd]; decide) ?_
        exact zq_st t 3 rfl rfl h
      · refine zq_yblk (s := t*5+1+0) 14 0 1 ht4 hd rfl hi64 (g0.trans hk) g3 (Or.inr ⟨by decide, rfl⟩) (Or.inl ⟨s2, rfl⟩) ?_
        refine br_f (by decide) ?_
        refine br_f (by decide) ?_
        refine br_f (by decide) ?_
        refine br_f (by decide) ?_
        refine br_f (by decide) ?_
        refine zq_in t rfl ?_
        refine br_t (by rw [esd]; decide) ?_
        exact zq_st t 3 rfl rfl h
    | succ e =>
      have hT1 : zq_T T D st (upd dp t (nI e)) sc rm mr := zq_T_dp hTT (fun _ => ⟨tt.1, ⟨e, by omega, rfl⟩, tt.2.2.1, tt.2.2.2.1, tt.2.2.2.2.1, fun z => absurd s2 z⟩)
      refine ⟨7, (nI T, nI N, nI D, nI L, nI K, co, ca, cb, cc, cv, cr, sg, st, upd dp t (nI e), sc, rs, rm, mr, pc, sw, rg, sv), (nI T, nI N, nI D, nI L, nI K, pg, cv, cr, st, upd dp t (nI e), sc, rs, mr, rd, pc, rg, ph, pv, wh, wv), zq_re_mk ⟨hB, hC, hT1, hRd, hP, hS, hO⟩ hq, fun post h => ?_, fun post h => ?_⟩
      · refine zq_in t rfl ?_
        refine br_t (by rw [es, b2]) ?_
        refine zq_in t rfl ?_
        refine br_f (by rw [esd]; exact nI_nle (by omega) (by omega)) ?_
        refine zq_in t rfl ?_
        exact zq_st t (nI e) rfl (by rw [esd]; exact nI_pred e) h
      · refine zq_yblk (s := t*5+1+e+1) 14 0 1 ht4 hd rfl hi64 (g0.trans hk) g3 (Or.inr ⟨by decide, rfl⟩) (Or.inl ⟨s2, rfl⟩) ?_
        refine br_f (by decide) ?_
        refine br_f (by decide) ?_
        refine br_f (by decide) ?_
        refine br_f (by decide) ?_
        refine br_f (by decide) ?_
        refine zq_in t rfl ?_
        refine br_f (by rw [esd]; exact nI_nle (by omega) (by omega)) ?_
        refine zq_in t rfl ?_
        exact zq_st t (nI e) rfl (by rw [esd]; exact nI_pred e) h
end
end
section
-- Y's choice of the three executes
def zq_YX (Q : Int32 → SY → Prop) (t i : Nat) (k : Int32) (T N D L K : Nat) (pg cv cr st dp sc rs mr rd pc rg ph pv wh wv : Nat → Int32) : Prop := ((7 < k → ((9 < k → wpY_executeBlock Q (nI T, nI N, nI D, nI L, nI K, pg, cv, cr, st, dp, sc, rs, mr, rd, pc, rg, ph, pv, wh, wv) (nI t) (nI i)) ∧ (¬ 9 < k → wpY_executeMemory Q (nI T, nI N, nI D, nI L, nI K, pg, cv, cr, st, dp, sc, rs, mr, rd, pc, rg, ph, pv, wh, wv) (nI t) (nI i)))) ∧ (¬ 7 < k → wpY_executePlain Q (nI T, nI N, nI D, nI L, nI K, pg, cv, cr, st, dp, sc, rs, mr, rd, pc, rg, ph, pv, wh, wv) (nI t) (nI i)))
section
variable {T N D L K : Nat} {co ca cb cc cv cr sg st dp sc rs rm mr pc sw rg sv pg rd ph pv wh wv : Nat → Int32}
theorem zq_ex0 (hR : zq_RL T N D L K co ca cb cc st dp sc rm mr pc sw sv pg rd ph pv) {t d i : Nat} {b : Int32} (ht : t < T) (hd : dp t = nI d) (hdD : d ≤ D) (hp : pc (t*5+1+d) = nI i) (hi : i < L) (hb : st t = b) (hbb : b = 1 ∨ b = 2) (hmk : mr t = 0) (hq : zq_lt b (sc t)) (hk : co i = nI 0) : zq_J (zq_re co t b) (fun post => wpX_execute post (nI T, nI N, nI D, nI L, nI K, co, ca, cb, cc, cv, cr, sg, st, dp, sc, rs, rm, mr, pc, sw, rg, sv) (nI t) (nI i)) (fun Q => zq_YX Q t i (co i) T N D L K pg cv cr st dp sc rs mr rd pc rg ph pv wh wv) := by
  have hi64 : i < 64 := by have := hR.1.2.2.2.1; omega
  obtain ⟨r, u, v, hre, hX, hY⟩ := zq_jhalt (cv := cv) (cr := cr) (sg := sg) (rs := rs) (rg := rg) (wh := wh) (wv := wv) hR ht hd hdD hp hi hb hbb hmk hq hk
  refine ⟨r, u, v, hre, fun post h => ?_, fun Q h => ?_⟩
  · refine zq_in i rfl ?_
    refine zq_nm i 0 rfl hk ?_
    exact br_f (by decide) (br_f (by decide) (br_t rfl (hX _ (zq_xe h))))
  · rw [hk]
    exact br_f (by decide) (hY Q h)
theorem zq_ex1 (hR : zq_RL T N D L K co ca cb cc st dp sc rm mr pc sw sv pg rd ph pv) {t d i : Nat} {b : Int32} (ht : t < T) (hd : dp t = nI d) (hdD : d ≤ D) (hp : pc (t*5+1+d) = nI i) (hi : i < L) (hb : st t = b) (hbb : b = 1 ∨ b = 2) (hmk : mr t = 0) (hq : zq_lt b (sc t)) (hk : co i = nI 1) : zq_J (zq_re co t b) (fun post => wpX_execute post (nI T, nI N, nI D, nI L, nI K, co, ca, cb, cc, cv, cr, sg, st, dp, sc, rs, rm, mr, pc, sw, rg, sv) (nI t) (nI i)) (fun Q => zq_YX Q t i (co i) T N D L K pg cv cr st dp sc rs mr rd pc rg ph pv wh wv) := by
  have hi64 : i < 64 := by have := hR.1.2.2.2.1; omega
  obtain ⟨r, u, v, hre, hX, hY⟩ := zq_jcomp (cv := cv) (cr := cr) (sg := sg) (rs := rs) (rg := rg) (wh := wh) (wv := wv) hR ht hd hdD hp hi hb hbb hmk hq hk (by omega)
  refine ⟨r, u, v, hre, fun post h => ?_, fun Q h => ?_⟩
  · refine zq_in i rfl ?_
    refine zq_nm i 1 rfl hk ?_
    exact br_f (by decide) (br_f (by decide) (br_f (by decide) (br_t rfl (hX _ (zq_xe h)))))
  · rw [hk]
    exact br_f (by decide) (hY Q h)
theorem zq_ex2 (hR : zq_RL T N D L K co ca cb cc st dp sc rm mr pc sw sv pg rd ph pv) {t d i : Nat} {b : Int32} (ht : t < T) (hd : dp t = nI d) (hdD : d ≤ D) (hp : pc (t*5+1+d) = nI i) (hi : i < L) (hb : st t = b) (hbb : b = 1 ∨ b = 2) (hmk : mr t = 0) (hq : zq_lt b (sc t)) (hk : co i = nI 2) : zq_J (zq_re co t b) (fun post => wpX_execute post (nI T, nI N, nI D, nI L, nI K, co, ca, cb, cc, cv, cr, sg, st, dp, sc, rs, rm, mr, pc, sw, rg, sv) (nI t) (nI i)) (fun Q => zq_YX Q t i (co i) T N D L K pg cv cr st dp sc rs mr rd pc rg ph pv wh wv) := by
  have hi64 : i < 64 := by have := hR.1.2.2.2.1; omega
  obtain ⟨r, u, v, hre, hX, hY⟩ := zq_jcomp (cv := cv) (cr := cr) (sg := sg) (rs := rs) (rg := rg) (wh := wh) (wv := wv) hR ht hd hdD hp hi hb hbb hmk hq hk (by omega)
  refine ⟨r, u, v, hre, fun post h => ?_, fun Q h => ?_⟩
  · refine zq_in i rfl ?_
    refine zq_nm i 2 rfl hk ?_
    exact br_f (by decide) (br_f (by decide) (br_f (by decide) (br_f (by decide) (br_t rfl (hX _ (zq_xe h))))))
  · rw [hk]
    exact br_f (by decide) (hY Q h)
theorem zq_ex3 (hR : zq_RL T N D L K co ca cb cc st dp sc rm mr pc sw sv pg rd ph pv) {t d i : Nat} {b : Int32} (ht : t < T) (hd : dp t = nI d) (hdD : d ≤ D) (hp : pc (t*5+1+d) = nI i) (hi : i < L) (hb : st t = b) (hbb : b = 1 ∨ b = 2) (hmk : mr t = 0) (hq : zq_lt b (sc t)) (hk : co i = nI 3) : zq_J (zq_re co t b) (fun post => wpX_execute post (nI T, nI N, nI D, nI L, nI K, co, ca, cb, cc, cv, cr, sg, st, dp, sc, rs, rm, mr, pc, sw, rg, sv) (nI t) (nI i)) (fun Q => zq_YX Q t i (co i) T N D L K pg cv cr st dp sc rs mr rd pc rg ph pv wh wv) := by
  have hi64 : i < 64 := by have := hR.1.2.2.2.1; omega
  obtain ⟨r, u, v, hre, hX, hY⟩ := zq_jcomp (cv := cv) (cr := cr) (sg := sg) (rs := rs) (rg := rg) (wh := wh) (wv := wv) hR ht hd hdD hp hi hb hbb hmk hq hk (by omega)
  refine ⟨r, u, v, hre, fun post h => ?_, fun Q h => ?_⟩
  · refine zq_in i rfl ?_
    refine zq_nm i 3 rfl hk ?_
    exact br_f (by decide) (br_f (by decide) (br_f (by decide) (br_f (by decide) (br_f (by decide) (br_t rfl (hX _ (zq_xe h)))))))
  · rw [hk]
    exact br_f (by decide) (hY Q h)
theorem zq_ex4 (hR : zq_RL T N D L K co ca cb cc st dp sc rm mr pc sw sv pg rd ph pv) {t d i : Nat} {b : Int32} (ht : t < T) (hd : dp t = nI d) (hdD : d ≤ D) (hp : pc (t*5+1+d) = nI i) (hi : i < L) (hb : st t = b) (hbb : b = 1 ∨ b = 2) (hmk : mr t = 0) (hq : zq_lt b (sc t)) (hk : co i = nI 4) : zq_J (zq_re co t b) (fun post => wpX_execute post (nI T, nI N, nI D, nI L, nI K, co, ca, cb, cc, cv, cr, sg, st, dp, sc, rs, rm, mr, pc, sw, rg, sv) (nI t) (nI i)) (fun Q => zq_YX Q t i (co i) T N D L K pg cv cr st dp sc rs mr rd pc rg ph pv wh wv) := by
  have hi64 : i < 64 := by have := hR.1.2.2.2.1; omega
  obtain ⟨r, u, v, hre, hX, hY⟩ := zq_jcomp (cv := cv) (cr := cr) (sg := sg) (rs := rs) (rg := rg) (wh := wh) (wv := wv) hR ht hd hdD hp hi hb hbb hmk hq hk (by omega)
  refine ⟨r, u, v, hre, fun post h => ?_, fun Q h => ?_⟩
  · refine zq_in i rfl ?_
    refine zq_nm i 4 rfl hk ?_
    exact br_f (by decide) (br_f (by decide) (br_f (by decide) (br_f (by decide) (br_f (by decide) (br_f (by decide) (br_t rfl (hX _ (zq_xe h))))))))
  · rw [hk]
    exact br_f (by decide) (hY Q h)
theorem zq_ex5 (hR : zq_RL T N D L K co ca cb cc st dp sc rm mr pc sw sv pg rd ph pv) {t d i : Nat} {b : Int32} (ht : t < T) (hd : dp t = nI d) (hdD : d ≤ D) (hp : pc (t*5+1+d) = nI i) (hi : i < L) (hb : st t = b) (hbb : b = 1 ∨ b = 2) (hmk : mr t = 0) (hq : zq_lt b (sc t)) (hk : co i = nI 5) : zq_J (zq_re co t b) (fun post => wpX_execute post (nI T, nI N, nI D, nI L, nI K, co, ca, cb, cc, cv, cr, sg, st, dp, sc, rs, rm, mr, pc, sw, rg, sv) (nI t) (nI i)) (fun Q => zq_YX Q t i (co i) T N D L K pg cv cr st dp sc rs mr rd pc rg ph pv wh wv) := by
  have hi64 : i < 64 := by have := hR.1.2.2.2.1; omega
  obtain ⟨r, u, v, hre, hX, hY⟩ := zq_jcomp (cv := cv) (cr := cr) (sg := sg) (rs := rs) (rg := rg) (wh := wh) (wv := wv) hR ht hd hdD hp hi hb hbb hmk hq hk (by omega)
  refine ⟨r, u, v, hre, fun post h => ?_, fun Q h => ?_⟩
  · refine zq_in i rfl ?_
    refine zq_nm i 5 rfl hk ?_
    exact br_f (by decide) (br_f (by decide) (br_f (by decide) (br_f (by decide) (br_f (by decide) (br_f (by decide) (br_f (by decide) (br_t rfl (hX _ (zq_xe h)))))))))
  · rw [hk]
    exact br_f (by decide) (hY Q h)
theorem zq_ex6 (hR : zq_RL T N D L K co ca cb cc st dp sc rm mr pc sw sv pg rd ph pv) {t d i : Nat} {b : Int32} (ht : t < T) (hd : dp t = nI d) (hdD : d ≤ D) (hp : pc (t*5+1+d) = nI i) (hi : i < L) (hb : st t = b) (hbb : b = 1 ∨ b = 2) (hmk : mr t = 0) (hq : zq_lt b (sc t)) (hk : co i = nI 6) : zq_J (zq_re co t b) (fun post => wpX_execute post (nI T, nI N, nI D, nI L, nI K, co, ca, cb, cc, cv, cr, sg, st, dp, sc, rs, rm, mr, pc, sw, rg, sv) (nI t) (nI i)) (fun Q => zq_YX Q t i (co i) T N D L K pg cv cr st dp sc rs mr rd pc rg ph pv wh wv) := by
  have hi64 : i < 64 := by have := hR.1.2.2.2.1; omega
  obtain ⟨r, u, v, hre, hX, hY⟩ := zq_jjump (cv := cv) (cr := cr) (sg := sg) (rs := rs) (rg := rg) (wh := wh) (wv := wv) hR ht hd hdD hp hi hb hbb hmk hq hk (by omega)
  refine ⟨r, u, v, hre, fun post h => ?_, fun Q h => ?_⟩
  · refine zq_in i rfl ?_
    refine zq_nm i 6 rfl hk ?_
    exact br_f (by decide) (br_f (by decide) (br_f (by decide) (br_f (by decide) (br_f (by decide) (br_f (by decide) (br_f (by decide) (br_f (by decide) (br_t rfl (hX _ (zq_xe h))))))))))
  · rw [hk]
    exact br_f (by decide) (hY Q h)
theorem zq_ex7 (hR : zq_RL T N D L K co ca cb cc st dp sc rm mr pc sw sv pg rd ph pv) {t d i : Nat} {b : Int32} (ht : t < T) (hd : dp t = nI d) (hdD : d ≤ D) (hp : pc (t*5+1+d) = nI i) (hi : i < L) (hb : st t = b) (hbb : b = 1 ∨ b = 2) (hmk : mr t = 0) (hq : zq_lt b (sc t)) (hk : co i = nI 7) : zq_J (zq_re co t b) (fun post => wpX_execute post (nI T, nI N, nI D, nI L, nI K, co, ca, cb, cc, cv, cr, sg, st, dp, sc, rs, rm, mr, pc, sw, rg, sv) (nI t) (nI i)) (fun Q => zq_YX Q t i (co i) T N D L K pg cv cr st dp sc rs mr rd pc rg ph pv wh wv) := by
  have hi64 : i < 64 := by have := hR.1.2.2.2.1; omega
  obtain ⟨r, u, v, hre, hX, hY⟩ := zq_jjump (cv := cv) (cr := cr) (sg := sg) (rs := rs) (rg := rg) (wh := wh) (wv := wv) hR ht hd hdD hp hi hb hbb hmk hq hk (by omega)
  refine ⟨r, u, v, hre, fun post h => ?_, fun Q h => ?_⟩
  · refine zq_in i rfl ?_
    refine zq_nm i 7 rfl hk ?_
    exact br_f (by decide) (br_f (by decide) (br_f (by decide) (br_f (by decide) (br_f (by decide) (br_f (by decide) (br_f (by decide) (br_f (by decide) (br_f (by decide) (br_t rfl (hX _ (zq_xe h)))))))))))
  · rw [hk]
    exact br_f (by decide) (hY Q h)
theorem zq_ex8 (hR : zq_RL T N D L K co ca cb cc st dp sc rm mr pc sw sv pg rd ph pv) {t d i : Nat} {b : Int32} (ht : t < T) (hd : dp t = nI d) (hdD : d ≤ D) (hp : pc (t*5+1+d) = nI i) (hi : i < L) (hb : st t = b) (hbb : b = 1 ∨ b = 2) (hmk : mr t = 0) (hq : zq_lt b (sc t)) (hk : co i = nI 8) : zq_J (zq_re co t b) (fun post => wpX_execute post (nI T, nI N, nI D, nI L, nI K, co, ca, cb, cc, cv, cr, sg, st, dp, sc, rs, rm, mr, pc, sw, rg, sv) (nI t) (nI i)) (fun Q => zq_YX Q t i (co i) T N D L K pg cv cr st dp sc rs mr rd pc rg ph pv wh wv) := by
  have hi64 : i < 64 := by have := hR.1.2.2.2.1; omega
  obtain ⟨r, u, v, hre, hX, hY⟩ := zq_jload (cv := cv) (cr := cr) (sg := sg) (rs := rs) (rg := rg) (wh := wh) (wv := wv) hR ht hd hdD hp hi hb hbb hmk hq hk
  refine ⟨r, u, v, hre, fun post h => ?_, fun Q h => ?_⟩
  · refine zq_in i rfl ?_
    refine zq_nm i 8 rfl hk ?_
    exact br_f (by decide) (br_f (by decide) (br_f (by decide) (br_f (by decide) (br_f (by decide) (br_f (by decide) (br_f (by decide) (br_f (by decide) (br_f (by decide) (br_f (by decide) (br_t rfl (hX _ (zq_xe h))))))))))))
  · rw [hk]
    exact br_t (by decide) (br_f (by decide) (hY Q h))
theorem zq_ex9 (hR : zq_RL T N D L K co ca cb cc st dp sc rm mr pc sw sv pg rd ph pv) {t d i : Nat} {b : Int32} (ht : t < T) (hd : dp t = nI d) (hdD : d ≤ D) (hp : pc (t*5+1+d) = nI i) (hi : i < L) (hb : st t = b) (hbb : b = 1 ∨ b = 2) (hmk : mr t = 0) (hq : zq_lt b (sc t)) (hk : co i = nI 9) : zq_J (zq_re co t b) (fun post => wpX_execute post (nI T, nI N, nI D, nI L, nI K, co, ca, cb, cc, cv, cr, sg, st, dp, sc, rs, rm, mr, pc, sw, rg, sv) (nI t) (nI i)) (fun Q => zq_YX Q t i (co i) T N D L K pg cv cr st dp sc rs mr rd pc rg ph pv wh wv) := by
  have hi64 : i < 64 := by have := hR.1.2.2.2.1; omega
  obtain ⟨r, u, v, hre, hX, hY⟩ := zq_jstore (cv := cv) (cr := cr) (sg := sg) (rs := rs) (rg := rg) (wh := wh) (wv := wv) hR ht hd hdD hp hi hb hbb hmk hq hk
  refine ⟨r, u, v, hre, fun post h => ?_, fun Q h => ?_⟩
  · refine zq_in i rfl ?_
    refine zq_nm i 9 rfl hk ?_
    exact br_f (by decide) (br_f (by decide) (br_f (by decide) (br_f (by decide) (br_f (by decide) (br_f (by decide) (br_f (by decide) (br_f (by decide) (br_f (by decide) (br_f (by decide) (br_f (by decide) (br_t rfl (hX _ (zq_xe h)))))))))))))
  · rw [hk]
    exact br_t (by decide) (br_f (by decide) (hY Q h))
theorem zq_ex10 (hR : zq_RL T N D L K co ca cb cc st dp sc rm mr pc sw sv pg rd ph pv) {t d i : Nat} {b : Int32} (ht : t < T) (hd : dp t = nI d) (hdD : d ≤ D) (hp : pc (t*5+1+d) = nI i) (hi : i < L) (hb : st t = b) (hbb : b = 1 ∨ b = 2) (hmk : mr t = 0) (hq : zq_lt b (sc t)) (hk : co i = nI 10) : zq_J (zq_re co t b) (fun post => wpX_execute post (nI T, nI N, nI D, nI L, nI K, co, ca, cb, cc, cv, cr, sg, st, dp, sc, rs, rm, mr, pc, sw, rg, sv) (nI t) (nI i)) (fun Q => zq_YX Q t i (co i) T N D L K pg cv cr st dp sc rs mr rd pc rg ph pv wh wv) := by
  have hi64 : i < 64 := by have := hR.1.2.2.2.1; omega
  obtain ⟨r, u, v, hre, hX, hY⟩ := zq_jatomic (cv := cv) (cr := cr) (sg := sg) (rs := rs) (rg := rg) (wh := wh) (wv := wv) hR ht hd hdD hp hi hb hbb hmk hq hk
  refine ⟨r, u, v, hre, fun post h => ?_, fun Q h => ?_⟩
  · refine zq_in i rfl ?_
    refine zq_nm i 10 rfl hk ?_
    exact br_f (by decide) (br_f (by decide) (br_f (by decide) (br_f (by decide) (br_f (by decide) (br_f (by decide) (br_f (by decide) (br_f (by decide) (br_f (by decide) (br_f (by decide) (br_f (by decide) (br_f (by decide) (br_t rfl (hX _ (zq_xe h))))))))))))))
  · rw [hk]
    exact br_t (by decide) (br_t (by decide) (hY Q h))
theorem zq_ex11 (hR : zq_RL T N D L K co ca cb cc st dp sc rm mr pc sw sv pg rd ph pv) {t d i : Nat} {b : Int32} (ht : t < T) (hd : dp t = nI d) (hdD : d ≤ D) (hp : pc (t*5+1+d) = nI i) (hi : i < L) (hb : st t = b) (hbb : b = 1 ∨ b = 2) (hmk : mr t = 0) (hq : zq_lt b (sc t)) (hk : co i = nI 11) : zq_J (zq_re co t b) (fun post => wpX_execute post (nI T, nI N, nI D, nI L, nI K, co, ca, cb, cc, cv, cr, sg, st, dp, sc, rs, rm, mr, pc, sw, rg, sv) (nI t) (nI i)) (fun Q => zq_YX Q t i (co i) T N D L K pg cv cr st dp sc rs mr rd pc rg ph pv wh wv) := by
  have hi64 : i < 64 := by have := hR.1.2.2.2.1; omega
  obtain ⟨r, u, v, hre, hX, hY⟩ := zq_jcommit (cv := cv) (cr := cr) (sg := sg) (rs := rs) (rg := rg) (wh := wh) (wv := wv) hR ht hd hdD hp hi hb hbb hmk hq hk
  refine ⟨r, u, v, hre, fun post h => ?_, fun Q h => ?_⟩
  · refine zq_in i rfl ?_
    refine zq_nm i 11 rfl hk ?_
    exact br_f (by decide) (br_f (by decide) (br_f (by decide) (br_f (by decide) (br_f (by decide) (br_f (by decide) (br_f (by decide) (br_f (by decide) (br_f (by decide) (br_f (by decide) (br_f (by decide) (br_f (by decide) (br_f (by decide) (br_t rfl (hX _ (zq_xe h)))))))))))))))
  · rw [hk]
    exact br_t (by decide) (br_t (by decide) (hY Q h))
theorem zq_ex12 (hR : zq_RL T N D L K co ca cb cc st dp sc rm mr pc sw sv pg rd ph pv) {t d i : Nat} {b : Int32} (ht : t < T) (hd : dp t = nI d) (hdD : d ≤ D) (hp : pc (t*5+1+d) = nI i) (hi : i < L) (hb : st t = b) (hbb : b = 1 ∨ b = 2) (hmk : mr t = 0) (hq : zq_lt b (sc t)) (hk : co i = nI 12) : zq_J (zq_re co t b) (fun post => wpX_execute post (nI T, nI N, nI D, nI L, nI K, co, ca, cb, cc, cv, cr, sg, st, dp, sc, rs, rm, mr, pc, sw, rg, sv) (nI t) (nI i)) (fun Q => zq_YX Q t i (co i) T N D L K pg cv cr st dp sc rs mr rd pc rg ph pv wh wv) := by
  have hi64 : i < 64 := by have := hR.1.2.2.2.1; omega
  obtain ⟨r, u, v, hre, hX, hY⟩ := zq_jorelse (cv := cv) (cr := cr) (sg := sg) (rs := rs) (rg := rg) (wh := wh) (wv := wv) hR ht hd hdD hp hi hb hbb hmk hq hk
  refine ⟨r, u, v, hre, fun post h => ?_, fun Q h => ?_⟩
  · refine zq_in i rfl ?_
    refine zq_nm i 12 rfl hk ?_
    exact br_f (by decide) (br_f (by decide) (br_f (by decide) (br_f (by decide) (br_f (by decide) (br_f (by decide) (br_f (by decide) (br_f (by decide) (br_f (by decide) (br_f (by decide) (br_f (by decide) (br_f (by decide) (br_f (by decide) (br_f (by decide) (br_t rfl (zq_in i rfl (by rw [zq_rd (a := cc) i rfl rfl]; exact hX _ (zq_xe h)))))))))))))))))
  · rw [hk]
    exact br_t (by decide) (br_t (by decide) (hY Q h))
theorem zq_ex13 (hR : zq_RL T N D L K co ca cb cc st dp sc rm mr pc sw sv pg rd ph pv) {t d i : Nat} {b : Int32} (ht : t < T) (hd : dp t = nI d) (hdD : d ≤ D) (hp : pc (t*5+1+d) = nI i) (hi : i < L) (hb : st t = b) (hbb : b = 1 ∨ b = 2) (hmk : mr t = 0) (hq : zq_lt b (sc t)) (hk : co i = nI 13) : zq_J (zq_re co t b) (fun post => wpX_execute post (nI T, nI N, nI D, nI L, nI K, co, ca, cb, cc, cv, cr, sg, st, dp, sc, rs, rm, mr, pc, sw, rg, sv) (nI t) (nI i)) (fun Q => zq_YX Q t i (co i) T N D L K pg cv cr st dp sc rs mr rd pc rg ph pv wh wv) := by
  have hi64 : i < 64 := by have := hR.1.2.2.2.1; omega
  obtain ⟨r, u, v, hre, hX, hY⟩ := zq_jjoin (cv := cv) (cr := cr) (sg := sg) (rs := rs) (rg := rg) (wh := wh) (wv := wv) hR ht hd hdD hp hi hb hbb hmk hq hk
  refine ⟨r, u, v, hre, fun post h => ?_, fun Q h => ?_⟩
  · refine zq_in i rfl ?_
    refine zq_nm i 13 rfl hk ?_
    exact br_f (by decide) (br_f (by decide) (br_f (by decide) (br_f (by decide) (br_f (by decide) (br_f (by decide) (br_f (by decide) (br_f (by decide) (br_f (by decide) (br_f (by decide) (br_f (by decide) (br_f (by decide) (br_f (by decide) (br_f (by decide) (br_f (by decide) (br_t rfl (zq_in i rfl (by rw [zq_rd (a := cc) i rfl rfl]; exact hX _ (zq_xe h))))))))))))))))))
  · rw [hk]
    exact br_t (by decide) (br_t (by decide) (hY Q h))
theorem zq_ex14 (hR : zq_RL T N D L K co ca cb cc st dp sc rm mr pc sw sv pg rd ph pv) {t d i : Nat} {b : Int32} (ht : t < T) (hd : dp t = nI d) (hdD : d ≤ D) (hp : pc (t*5+1+d) = nI i) (hi : i < L) (hb : st t = b) (hbb : b = 1 ∨ b = 2) (hmk : mr t = 0) (hq : zq_lt b (sc t)) (hk : co i = nI 14) : zq_J (zq_re co t b) (fun post => wpX_execute post (nI T, nI N, nI D, nI L, nI K, co, ca, cb, cc, cv, cr, sg, st, dp, sc, rs, rm, mr, pc, sw, rg, sv) (nI t) (nI i)) (fun Q => zq_YX Q t i (co i) T N D L K pg cv cr st dp sc rs mr rd pc rg ph pv wh wv) := by
  have hi64 : i < 64 := by have := hR.1.2.2.2.1; omega
  obtain ⟨r, u, v, hre, hX, hY⟩ := zq_jretry (cv := cv) (cr := cr) (sg := sg) (rs := rs) (rg := rg) (wh := wh) (wv := wv) hR ht hd hdD hp hi hb hbb hmk hq hk
  refine ⟨r, u, v, hre, fun post h => ?_, fun Q h => ?_⟩
  · refine zq_in i rfl ?_
    refine zq_nm i 14 rfl hk ?_
    exact br_f (by decide) (br_t (by decide) (hX _ (zq_xe h)))
  · rw [hk]
    exact br_t (by decide) (br_t (by decide) (hY Q h))
theorem zq_jexec (hR : zq_RL T N D L K co ca cb cc st dp sc rm mr pc sw sv pg rd ph pv) {t d i : Nat} {b : Int32} (ht : t < T) (hd : dp t = nI d) (hdD : d ≤ D) (hp : pc (t*5+1+d) = nI i) (hi : i < L) (hb : st t = b) (hbb : b = 1 ∨ b = 2) (hmk : mr t = 0) (hq : zq_lt b (sc t)) : zq_J (zq_re co t b) (fun post => wpX_execute post (nI T, nI N, nI D, nI L, nI K, co, ca, cb, cc, cv, cr, sg, st, dp, sc, rs, rm, mr, pc, sw, rg, sv) (nI t) (nI i)) (fun Q => zq_YX Q t i (co i) T N D L K pg cv cr st dp sc rs mr rd pc rg ph pv wh wv) := by
  obtain ⟨k, hk14, hk, _⟩ := (hR.2.1 i hi).2.2.2.2
  have c : k = 0 ∨ k = 1 ∨ k = 2 ∨ k = 3 ∨ k = 4 ∨ k = 5 ∨ k = 6 ∨ k = 7 ∨ k = 8 ∨ k = 9 ∨ k = 10 ∨ k = 11 ∨ k = 12 ∨ k = 13 ∨ k = 14 := by omega
  rcases c with rfl | rfl | rfl | rfl | rfl | rfl | rfl | rfl | rfl | rfl | rfl | rfl | rfl | rfl | rfl
  · exact zq_ex0 hR ht hd hdD hp hi hb hbb hmk hq hk
  · exact zq_ex1 hR ht hd hdD hp hi hb hbb hmk hq hk
  · exact zq_ex2 hR ht hd hdD hp hi hb hbb hmk hq hk
  · exact zq_ex3 hR ht hd hdD hp hi hb hbb hmk hq hk
  · exact zq_ex4 hR ht hd hdD hp hi hb hbb hmk hq hk
  · exact zq_ex5 hR ht hd hdD hp hi hb hbb hmk hq hk
  · exact zq_ex6 hR ht hd hdD hp hi hb hbb hmk hq hk
  · exact zq_ex7 hR ht hd hdD hp hi hb hbb hmk hq hk
  · exact zq_ex8 hR ht hd hdD hp hi hb hbb hmk hq hk
  · exact zq_ex9 hR ht hd hdD hp hi hb hbb hmk hq hk
  · exact zq_ex10 hR ht hd hdD hp hi hb hbb hmk hq hk
  · exact zq_ex11 hR ht hd hdD hp hi hb hbb hmk hq hk
  · exact zq_ex12 hR ht hd hdD hp hi hb hbb hmk hq hk
  · exact zq_ex13 hR ht hd hdD hp hi hb hbb hmk hq hk
  · exact zq_ex14 hR ht hd hdD hp hi hb hbb hmk hq hk
theorem zq_j76 (hR : zq_RL T N D L K co ca cb cc st dp sc rm mr pc sw sv pg rd ph pv) {t : Nat} {b : Int32} (ht : t < T) (hb : st t = b) (hbb : b = 1 ∨ b = 2) (hmk : mr t = 0) (hq : zq_lt b (sc t)) : zq_J zq_rr (fun post => wX_stepThread_76 post (nI t) b (nI T) (nI N) (nI D) (nI L) (nI K) co ca cb cc cv cr sg st dp sc rs rm mr pc sw rg sv) (fun post => wY_step_81 post (nI t) b (nI T) (nI N) (nI D) (nI L) (nI K) pg cv cr st dp sc rs mr rd pc rg ph pv wh wv) := by
  have hT4 : T ≤ 4 := hR.1.1
  have hL : L ≤ 64 := hR.1.2.2.2.1
  have ht4 : t < 4 := by omega
  obtain ⟨d, hdD, hd3, hd⟩ := zq_dep hR ht4
  obtain ⟨i, hi64, hp⟩ := hR.2.2.2.2.1 (t*5+1+d) (by omega)
  have etop : nI t * 5 + dp (nI t).toNatClampNeg + 1 = nI (t*5+1+d) := zq_topY (zq_rd t rfl hd)
  by_cases hi : i < L
  · obtain ⟨r, u, v, hre, hX, hY⟩ := zq_jexec (cv := cv) (cr := cr) (sg := sg) (rs := rs) (rg := rg) (wh := wh) (wv := wv) hR ht hd hdD hp hi hb hbb hmk hq
    have g0 := (hR.2.1 i hi).1
    revert hX hY
    refine zq_re_el (P := fun u v => (∀ post : Int32 → SX → Prop, post r u → wpX_execute post (nI T, nI N, nI D, nI L, nI K, co, ca, cb, cc, cv, cr, sg, st, dp, sc, rs, rm, mr, pc, sw, rg, sv) (nI t) (nI i)) → (∀ Q : Int32 → SY → Prop, Q r v → zq_YX Q t i (co i) T N D L K pg cv cr st dp sc rs mr rd pc rg ph pv wh wv) → zq_J zq_rr (fun post => wX_stepThread_76 post (nI t) b (nI T) (nI N) (nI D) (nI L) (nI K) co ca cb cc cv cr sg st dp sc rs rm mr pc sw rg sv) (fun post => wY_step_81 post (nI t) b (nI T) (nI N) (nI D) (nI L) (nI K) pg cv cr st dp sc rs mr rd pc rg ph pv wh wv)) ?_ hre
    intro T' N' D' L' K' co' ca' cb' cc' cv' cr' sg' st' dp' sc' rs' rm' mr' pc' sw' rg' sv' pg' rd' ph' pv' wh' wv' hR' hco hlt hX hY
    have hXw : ∀ post : Int32 → SX → Prop, ((r = 6 → post r (nI T', nI N', nI D', nI L', nI K', co', ca', cb', cc', cv', cr', sg', st', dp', sc', rs', rm', mr', pc', sw', rg', sv')) ∧ (¬ r = 6 → ((b = 2 → (vp_in (nI i) 64 ∧ ((co' (nI i).toNatClampNeg = 11 → post r (nI T', nI N', nI D', nI L', nI K', co', ca', cb', cc', cv', cr', sg', st', dp', sc', rs', rm', mr', pc', sw', rg', sv')) ∧ (¬ co' (nI i).toNatClampNeg = 11 → (vp_in (nI t) 4 ∧ (vp_in (nI t) 4 ∧ ∀ sc2 : Nat → Int32, sc2 = upd sc' (nI t).toNatClampNeg (sc' (nI t).toNatClampNeg + 1) → post r (nI T', nI N', nI D', nI L', nI K', co', ca', cb', cc', cv', cr', sg', st', dp', sc2, rs', rm', mr', pc', sw', rg', sv'))))))) ∧ (¬ b = 2 → post r (nI T', nI N', nI D', nI L', nI K', co', ca', cb', cc', cv', cr', sg', st', dp', sc', rs', rm', mr', pc', sw', rg', sv'))))) → wX_stepThread_76 post (nI t) b (nI T) (nI N) (nI D) (nI L) (nI K) co ca cb cc cv cr sg st dp sc rs rm mr pc sw rg sv := by
      intro post h
      unfold wX_stepThread_76
      refine zq_xtop ht4 hd ?_
      refine zq_in (t*5+1+d) rfl ?_
      refine zq_nm (t*5+1+d) (nI i) rfl hp ?_
      refine br_f (nI_pos (by omega)) ?_
      refine br_t (nI_lt hi (by omega)) ?_
      exact hX _ h
    have hYw : ∀ post : Int32 → SY → Prop, wY_step_162 post (nI t) b (co i) r (nI T') (nI N') (nI D') (nI L') (nI K') pg' cv' cr' st' dp' sc' rs' mr' rd' pc' rg' ph' pv' wh' wv' → wY_step_81 post (nI t) b (nI T) (nI N) (nI D) (nI L) (nI K) pg cv cr st dp sc rs mr rd pc rg ph pv wh wv := by
      intro post h
      refine zq_in t rfl ?_
      refine zq_in (t*5+1+d) etop ?_
      refine zq_nm (t*5+1+d) (nI i) etop hp ?_
      refine br_t (nI_lt hi (by omega)) ?_
      refine zq_in (i*4) (zq_4 i) ?_
      refine zq_nm (i*4) (co i) (zq_4 i) g0 ?_
      exact hY _ h
    have eco : co' (nI i).toNatClampNeg = co i := by rw [hco]; exact zq_rd i rfl rfl
    by_cases h6 : r = 6
    · exact ⟨r, (nI T', nI N', nI D', nI L', nI K', co', ca', cb', cc', cv', cr', sg', st', dp', sc', rs', rm', mr', pc', sw', rg', sv'), (nI T', nI N', nI D', nI L', nI K', pg', cv', cr', st', dp', sc', rs', mr', rd', pc', rg', ph', pv', wh', wv'), zq_rr_mk hR', fun post h => hXw post (br_t h6 h), fun post h => hYw post (br_t h6 h)⟩
    · by_cases h2 : b = 2
      · by_cases h11 : co i = 11
        · exact ⟨r, (nI T', nI N', nI D', nI L', nI K', co', ca', cb', cc', cv', cr', sg', st', dp', sc', rs', rm', mr', pc', sw', rg', sv'), (nI T', nI N', nI D', nI L', nI K', pg', cv', cr', st', dp', sc', rs', mr', rd', pc', rg', ph', pv', wh', wv'), zq_rr_mk hR', fun post h => hXw post (br_f h6 (br_t h2 (zq_in i rfl (br_t (eco.trans h11) h)))), fun post h => hYw post (br_f h6 (br_t h2 (br_t h11 h)))⟩
        · obtain ⟨q, hq100, eq⟩ := hlt h2
          have esc : sc' (nI t).toNatClampNeg = nI q := zq_rd t rfl eq
          have tt := hR'.2.2.1 t ht4
          have hR2 : zq_RL T' N' D' L' K' co' ca' cb' cc' st' dp' (upd sc' t (nI (q+1))) rm' mr' pc' sw' sv' pg' rd' ph' pv' := ⟨hR'.1, hR'.2.1, zq_T_sc hR'.2.2.1 (fun _ => ⟨tt.1, tt.2.1, ⟨q+1, by omega, rfl⟩, tt.2.2.2⟩), hR'.2.2.2⟩
          exact ⟨r, (nI T', nI N', nI D', nI L', nI K', co', ca', cb', cc', cv', cr', sg', st', dp', upd sc' t (nI (q+1)), rs', rm', mr', pc', sw', rg', sv'), (nI T', nI N', nI D', nI L', nI K', pg', cv', cr', st', dp', upd sc' t (nI (q+1)), rs', mr', rd', pc', rg', ph', pv', wh', wv'), zq_rr_mk hR2, fun post h => hXw post (br_f h6 (br_t h2 (zq_in i rfl (br_f (fun z => h11 (eco.symm.trans z)) (zq_in t rfl (zq_st t (nI (q+1)) rfl (by rw [esc, nI_1]) h)))))), fun post h => hYw post (br_f h6 (br_t h2 (br_f h11 (zq_in t rfl (zq_st t (nI (q+1)) rfl (by rw [esc, nI_1]) h)))))⟩
      · exact ⟨r, (nI T', nI N', nI D', nI L', nI K', co', ca', cb', cc', cv', cr', sg', st', dp', sc', rs', rm', mr', pc', sw', rg', sv'), (nI T', nI N', nI D', nI L', nI K', pg', cv', cr', st', dp', sc', rs', mr', rd', pc', rg', ph', pv', wh', wv'), zq_rr_mk hR', fun post h => hXw post (br_f h6 (br_f h2 h)), fun post h => hYw post (br_f h6 (br_f h2 h))⟩
  · obtain ⟨u, v, hre, hX, hY⟩ := zq_jfail (cv := cv) (cr := cr) (sg := sg) (rs := rs) (rg := rg) (wh := wh) (wv := wv) hR ht b 5
    refine ⟨6, u, v, hre.1, fun post h => ?_, fun post h => ?_⟩
    · unfold wX_stepThread_76
      refine zq_xtop ht4 hd ?_
      refine zq_in (t*5+1+d) rfl ?_
      refine zq_nm (t*5+1+d) (nI i) rfl hp ?_
      refine br_f (nI_pos (by omega)) ?_
      refine br_f (nI_nlt (by omega) (by omega)) ?_
      exact hX _ (zq_xe h)
    · refine zq_in t rfl ?_
      refine zq_in (t*5+1+d) etop ?_
      refine zq_nm (t*5+1+d) (nI i) etop hp ?_
      refine br_f (nI_nlt (by omega) (by omega)) ?_
      exact hY _ (zq_ye h)
end
end
section
theorem zq_xe1 {post : SX → Prop} {u : SX} (h : post u) : (match u with | (f1, f2, f3, f4, f5, a1, a2, a3, a4, a5, a6, a7, a8, a9, a10, a11, a12, a13, a14, a15, a16, a17) => post (f1, f2, f3, f4, f5, a1, a2, a3, a4, a5, a6, a7, a8, a9, a10, a11, a12, a13, a14, a15, a16, a17)) := by
  obtain ⟨f1, f2, f3, f4, f5, a1, a2, a3, a4, a5, a6, a7, a8, a9, a10, a11, a12, a13, a14, a15, a16, a17⟩ := u
  exact h
theorem zq_ye1 {post : SY → Prop} {u : SY} (h : post u) : (match u with | (f1, f2, f3, f4, f5, a1, a2, a3, a4, a5, a6, a7, a8, a9, a10, a11, a12, a13, a14, a15) => post (f1, f2, f3, f4, f5, a1, a2, a3, a4, a5, a6, a7, a8, a9, a10, a11, a12, a13, a14, a15)) := by
  obtain ⟨f1, f2, f3, f4, f5, a1, a2, a3, a4, a5, a6, a7, a8, a9, a10, a11, a12, a13, a14, a15⟩ := u
  exact h
-- clamps
def zq_clamp (p lo hi : Int32) : Int32 := if lo ≤ p then (if p ≤ hi then p else hi) else lo
theorem zq_clamp_n (p : Int32) {M : Nat} (h1 : 1 ≤ M) (hM : M ≤ 1000) : ∃ j, 1 ≤ j ∧ j ≤ M ∧ zq_clamp p 1 (nI M) = nI j := by
  unfold zq_clamp
  by_cases a : 1 ≤ p
  · rw [if_pos a]
    by_cases c : p ≤ nI M
    · rw [if_pos c]
      have h0 : ¬ p < 0 := by
        rw [Int32.lt_iff_toInt_lt]
        rw [Int32.le_iff_toInt_le] at a
        have e0 : (0 : Int32).toInt = 0 := by decide
        have e1 : (1 : Int32).toInt = 1 := by decide
        omega
      obtain ⟨j, hj, rfl⟩ := nI_of h0
      have k1 : 1 ≤ j := (nI_leI (a := 1) (b := j) (by omega) hj).mp a
      have k2 : j ≤ M := (nI_leI hj (by omega)).mp c
      exact ⟨j, k1, k2, rfl⟩
    · rw [if_neg c]
      exact ⟨M, h1, Nat.le_refl M, rfl⟩
  · rw [if_neg a]
    exact ⟨1, Nat.le_refl 1, h1, rfl⟩
theorem zq_xclamp {post : Int32 → Prop} {u : SX} {p lo hi : Int32} (h : post (zq_clamp p lo hi)) : wpX_clamp post u p lo hi := by
  obtain ⟨f1, f2, f3, f4, f5, a1, a2, a3, a4, a5, a6, a7, a8, a9, a10, a11, a12, a13, a14, a15, a16, a17⟩ := u
  unfold zq_clamp at h
  refine br_c (fun a => br_c (fun c => ?_) (fun c => ?_)) (fun a => ?_)
  · rw [if_pos a, if_pos c] at h
    exact h
  · rw [if_pos a, if_neg c] at h
    exact h
  · rw [if_neg a] at h
    exact h
theorem zq_yclamp {post : Int32 → Prop} {u : SY} {p lo hi : Int32} (h : post (zq_clamp p lo hi)) : wpY_clamp post u p lo hi := by
  obtain ⟨f1, f2, f3, f4, f5, a1, a2, a3, a4, a5, a6, a7, a8, a9, a10, a11, a12, a13, a14, a15⟩ := u
  unfold zq_clamp at h
  refine br_c (fun a => br_c (fun c => ?_) (fun c => ?_)) (fun a => ?_)
  · rw [if_pos a, if_pos c] at h
    exact h
  · rw [if_pos a, if_neg c] at h
    exact h
  · rw [if_neg a] at h
    exact h
section
variable {T N D L K : Nat} {co ca cb cc cv cr sg st dp sc rs rm mr pc sw rg sv pg rd ph pv wh wv : Nat → Int32}
theorem zq_jstep (hR : zq_RL T N D L K co ca cb cc st dp sc rm mr pc sw sv pg rd ph pv) (p : Int32) : zq_J zq_rr (fun post => wpX_stepThread post (nI T, nI N, nI D, nI L, nI K, co, ca, cb, cc, cv, cr, sg, st, dp, sc, rs, rm, mr, pc, sw, rg, sv) p) (fun post => wpY_step post (nI T, nI N, nI D, nI L, nI K, pg, cv, cr, st, dp, sc, rs, mr, rd, pc, rg, ph, pv, wh, wv) p) := by
  have hT4 : T ≤ 4 := hR.1.1
  rcases pk_ix p (n := T) (by omega) with c | c | ⟨t, ht, rfl⟩
  · exact ⟨-1, (nI T, nI N, nI D, nI L, nI K, co, ca, cb, cc, cv, cr, sg, st, dp, sc, rs, rm, mr, pc, sw, rg, sv), (nI T, nI N, nI D, nI L, nI K, pg, cv, cr, st, dp, sc, rs, mr, rd, pc, rg, ph, pv, wh, wv), zq_rr_mk hR, fun post h => (by unfold wpX_stepThread; exact zq_xthn (Or.inl c) (br_t rfl h)), fun post h => (by unfold wpY_step; exact zq_ythn (Or.inl c) (br_t rfl h))⟩
  · exact ⟨-1, (nI T, nI N, nI D, nI L, nI K, co, ca, cb, cc, cv, cr, sg, st, dp, sc, rs, rm, mr, pc, sw, rg, sv), (nI T, nI N, nI D, nI L, nI K, pg, cv, cr, st, dp, sc, rs, mr, rd, pc, rg, ph, pv, wh, wv), zq_rr_mk hR, fun post h => (by unfold wpX_stepThread; exact zq_xthn (Or.inr c) (br_t rfl h)), fun post h => (by unfold wpY_step; exact zq_ythn (Or.inr c) (br_t rfl h))⟩
  · have ht4 : t < 4 := by omega
    have tt := hR.2.2.1 t ht4
    obtain ⟨q, hq, eq⟩ := tt.2.2.1
    have esc : sc (nI t).toNatClampNeg = nI q := zq_rd t rfl eq
    have emk : mr (nI t).toNatClampNeg = mr t := zq_rd t rfl rfl
    by_cases h3 : st t = 3
    · refine ⟨0, (nI T, nI N, nI D, nI L, nI K, co, ca, cb, cc, cv, cr, sg, st, dp, sc, rs, rm, mr, pc, sw, rg, sv), (nI T, nI N, nI D, nI L, nI K, pg, cv, cr, st, dp, sc, rs, mr, rd, pc, rg, ph, pv, wh, wv), zq_rr_mk hR, fun post h => ?_, fun post h => ?_⟩
      · unfold wpX_stepThread
        refine zq_xth hT4 ht ?_
        refine br_f (by decide) ?_
        refine zq_in t rfl ?_
        refine zq_nm t 3 rfl h3 ?_
        exact br_t rfl h
      · unfold wpY_step
        refine zq_yth hT4 ht ?_
        refine br_f (by decide) ?_
        refine zq_in t rfl ?_
        refine zq_nm t 3 rfl h3 ?_
        exact br_t rfl h
    · by_cases h1 : st t = 1
      · have hmk : mr t = 0 := tt.2.2.2.2.1 (by rw [h1]; decide)
        obtain ⟨r, u, v, hre, hX, hY⟩ := zq_j76 (cv := cv) (cr := cr) (sg := sg) (rs := rs) (rg := rg) (wh := wh) (wv := wv) hR ht h1 (Or.inl rfl) hmk (fun z => absurd z (by decide))
        refine ⟨r, u, v, hre, fun post h => ?_, fun post h => ?_⟩
        · unfold wpX_stepThread
          refine zq_xth hT4 ht ?_
          refine br_f (by decide) ?_
          refine zq_in t rfl ?_
          refine zq_nm t 1 rfl h1 ?_
          refine br_f (by decide) ?_
          refine br_t rfl ?_
          refine br_f (by decide) ?_
          exact hX post h
        · unfold wpY_step
          refine zq_yth hT4 ht ?_
          refine br_f (by decide) ?_
          refine zq_in t rfl ?_
          refine zq_nm t 1 rfl h1 ?_
          refine br_f (by decide) ?_
          refine br_t rfl ?_
          refine br_f (by decide) ?_
          refine br_f (by decide) ?_
          exact hY post h
      · by_cases h2 : st t = 2
        · by_cases hm : mr t = 0
          · by_cases hq100 : q < 100
            · obtain ⟨r, u, v, hre, hX, hY⟩ := zq_j76 (cv := cv) (cr := cr) (sg := sg) (rs := rs) (rg := rg) (wh := wh) (wv := wv) hR ht h2 (Or.inr rfl) hm (fun _ => ⟨q, hq100, eq⟩)
              refine ⟨r, u, v, hre, fun post h => ?_, fun post h => ?_⟩
              · unfold wpX_stepThread
                refine zq_xth hT4 ht ?_
                refine br_f (by decide) ?_
                refine zq_in t rfl ?_
                refine zq_nm t 2 rfl h2 ?_
                refine br_f (by decide) ?_
                refine br_f (by decide) ?_
                refine br_t rfl ?_
                refine br_t rfl ?_
                refine zq_in t rfl ?_
                refine br_t (emk.trans hm) ?_
                refine zq_in t rfl ?_
                refine br_t (by rw [esc]; exact nI_lt (b := 100) hq100 (by omega)) ?_
                exact hX post h
              · unfold wpY_step
                refine zq_yth hT4 ht ?_
                refine br_f (by decide) ?_
                refine zq_in t rfl ?_
                refine zq_nm t 2 rfl h2 ?_
                refine br_f (by decide) ?_
                refine br_f (by decide) ?_
                refine br_t rfl ?_
                refine br_t rfl ?_
                refine zq_in t rfl ?_
                refine br_t (emk.trans hm) ?_
                refine br_t rfl ?_
                refine zq_in t rfl ?_
                refine br_f (fun z => by have z2 := (nI_eq (a := q) (b := 100) (by omega) (by omega)).mp (esc.symm.trans z); omega) ?_
                exact hY post h
            · have q100 : q = 100 := by omega
              obtain ⟨u, v, hre, hX, hY⟩ := zq_jfail (cv := cv) (cr := cr) (sg := sg) (rs := rs) (rg := rg) (wh := wh) (wv := wv) hR ht 2 9
              refine ⟨6, u, v, hre.1, fun post h => ?_, fun post h => ?_⟩
              · unfold wpX_stepThread
                refine zq_xth hT4 ht ?_
                refine br_f (by decide) ?_
                refine zq_in t rfl ?_
                refine zq_nm t 2 rfl h2 ?_
                refine br_f (by decide) ?_
                refine br_f (by decide) ?_
                refine br_t rfl ?_
                refine br_t rfl ?_
                refine zq_in t rfl ?_
                refine br_t (emk.trans hm) ?_
                refine zq_in t rfl ?_
                refine br_f (by rw [esc]; exact nI_nlt (b := 100) (by omega) (by omega)) ?_
                exact hX _ (zq_xe h)
              · unfold wpY_step
                refine zq_yth hT4 ht ?_
                refine br_f (by decide) ?_
                refine zq_in t rfl ?_
                refine zq_nm t 2 rfl h2 ?_
                refine br_f (by decide) ?_
                refine br_f (by decide) ?_
                refine br_t rfl ?_
                refine br_t rfl ?_
                refine zq_in t rfl ?_
                refine br_t (emk.trans hm) ?_
                refine br_t rfl ?_
                refine zq_in t rfl ?_
                refine br_t (by rw [esc, q100]; rfl) ?_
                exact hY _ (zq_ye h)
          · obtain ⟨u, v, hre, hX, hY⟩ := zq_jrestart (cv := cv) (cr := cr) (sg := sg) (rs := rs) (rg := rg) (wh := wh) (wv := wv) hR ht
            refine ⟨3, u, v, hre, fun post h => ?_, fun post h => ?_⟩
            · unfold wpX_stepThread
              refine zq_xth hT4 ht ?_
              refine br_f (by decide) ?_
              refine zq_in t rfl ?_
              refine zq_nm t 2 rfl h2 ?_
              refine br_f (by decide) ?_
              refine br_f (by decide) ?_
              refine br_t rfl ?_
              refine br_t rfl ?_
              refine zq_in t rfl ?_
              refine br_f (fun z => hm (emk.symm.trans z)) ?_
              exact hX _ (zq_xe h)
            · unfold wpY_step
              refine zq_yth hT4 ht ?_
              refine br_f (by decide) ?_
              refine zq_in t rfl ?_
              refine zq_nm t 2 rfl h2 ?_
              refine br_f (by decide) ?_
              refine br_f (by decide) ?_
              refine br_t rfl ?_
              refine br_t rfl ?_
              refine zq_in t rfl ?_
              refine br_f (fun z => hm (emk.symm.trans z)) ?_
              exact hY _ (zq_ye h)
        · refine ⟨-1, (nI T, nI N, nI D, nI L, nI K, co, ca, cb, cc, cv, cr, sg, st, dp, sc, rs, rm, mr, pc, sw, rg, sv), (nI T, nI N, nI D, nI L, nI K, pg, cv, cr, st, dp, sc, rs, mr, rd, pc, rg, ph, pv, wh, wv), zq_rr_mk hR, fun post h => ?_, fun post h => ?_⟩
          · unfold wpX_stepThread
            refine zq_xth hT4 ht ?_
            refine br_f (by decide) ?_
            refine zq_in t rfl ?_
            refine zq_nm t (st t) rfl rfl ?_
            exact br_f h3 (br_f h1 (br_f h2 h))
          · unfold wpY_step
            refine zq_yth hT4 ht ?_
            refine br_f (by decide) ?_
            refine zq_in t rfl ?_
            refine zq_nm t (st t) rfl rfl ?_
            exact br_f h3 (br_f h1 (br_f h2 h))
theorem zq_xends {post : Int32 → Prop} {r : Int32} (h1 : (r = -1 ∨ r = 0 ∨ r = 4 ∨ r = 5 ∨ r = 6) → post 1) (h0 : ¬ (r = -1 ∨ r = 0 ∨ r = 4 ∨ r = 5 ∨ r = 6) → post 0) : wpX_endsRun post (nI T, nI N, nI D, nI L, nI K, co, ca, cb, cc, cv, cr, sg, st, dp, sc, rs, rm, mr, pc, sw, rg, sv) r :=
  br_c (fun z => h1 (Or.inl z)) (fun a => br_c (fun z => h1 (Or.inr (Or.inl z))) (fun b => br_c (fun z => h1 (Or.inr (Or.inr (Or.inl z)))) (fun c => br_c (fun z => h1 (Or.inr (Or.inr (Or.inr (Or.inl z))))) (fun d => br_c (fun z => h1 (Or.inr (Or.inr (Or.inr (Or.inr z))))) (fun e => h0 (fun z => z.elim a (fun z => z.elim b (fun z => z.elim c (fun z => z.elim d e)))))))))
end
theorem zq_jrun (p : Int32) {M : Nat} (hM : M ≤ 128) : ∀ k i : Nat, i + k = M → ∀ (a : Int32) (T N D L K : Nat) (co ca cb cc cv cr sg st dp sc rs rm mr pc sw rg sv pg rd ph pv wh wv : Nat → Int32), zq_RL T N D L K co ca cb cc st dp sc rm mr pc sw sv pg rd ph pv → zq_J zq_rr (fun post => wX_run_16 post p (nI M) (k + 1) a (nI i) (nI T) (nI N) (nI D) (nI L) (nI K) co ca cb cc cv cr sg st dp sc rs rm mr pc sw rg sv) (fun post => wY_run_16 post p (nI M) (k + 1) a (nI i) (nI T) (nI N) (nI D) (nI L) (nI K) pg cv cr st dp sc rs mr rd pc rg ph pv wh wv) := by
  intro k
  induction k with
  | zero =>
    intro i hi a T N D L K co ca cb cc cv cr sg st dp sc rs rm mr pc sw rg sv pg rd ph pv wh wv hR
    exact ⟨a, (nI T, nI N, nI D, nI L, nI K, co, ca, cb, cc, cv, cr, sg, st, dp, sc, rs, rm, mr, pc, sw, rg, sv), (nI T, nI N, nI D, nI L, nI K, pg, cv, cr, st, dp, sc, rs, mr, rd, pc, rg, ph, pv, wh, wv), zq_rr_mk hR, fun post h => br_t (nI_le (by omega) (by omega)) h, fun post h => br_t (nI_le (by omega) (by omega)) h⟩
  | succ k ih =>
    intro i hi a T N D L K co ca cb cc cv cr sg st dp sc rs rm mr pc sw rg sv pg rd ph pv wh wv hR
    obtain ⟨r, u, v, hrr, hX, hY⟩ := zq_jstep (cv := cv) (cr := cr) (sg := sg) (rs := rs) (rg := rg) (wh := wh) (wv := wv) hR p
    revert hX hY
    refine zq_rr_el (P := fun u v => (∀ post : Int32 → SX → Prop, post r u → wpX_stepThread post (nI T, nI N, nI D, nI L, nI K, co, ca, cb, cc, cv, cr, sg, st, dp, sc, rs, rm, mr, pc, sw, rg, sv) p) → (∀ post : Int32 → SY → Prop, post r v → wpY_step post (nI T, nI N, nI D, nI L, nI K, pg, cv, cr, st, dp, sc, rs, mr, rd, pc, rg, ph, pv, wh, wv) p) → zq_J zq_rr (fun post => wX_run_16 post p (nI M) (k + 1 + 1) a (nI i) (nI T) (nI N) (nI D) (nI L) (nI K) co ca cb cc cv cr sg st dp sc rs rm mr pc sw rg sv) (fun post => wY_run_16 post p (nI M) (k + 1 + 1) a (nI i) (nI T) (nI N) (nI D) (nI L) (nI K) pg cv cr st dp sc rs mr rd pc rg ph pv wh wv)) ?_ hrr
    intro T' N' D' L' K' co' ca' cb' cc' cv' cr' sg' st' dp' sc' rs' rm' mr' pc' sw' rg' sv' pg' rd' ph' pv' wh' wv' hR' hX hY
    by_cases c : r = -1 ∨ r = 0 ∨ r = 4 ∨ r = 5 ∨ r = 6
    · refine ⟨r, (nI T', nI N', nI D', nI L', nI K', co', ca', cb', cc', cv', cr', sg', st', dp', sc', rs', rm', mr', pc', sw', rg', sv'), (nI T', nI N', nI D', nI L', nI K', pg', cv', cr', st', dp', sc', rs', mr', rd', pc', rg', ph', pv', wh', wv'), zq_rr_mk hR', fun post h => ?_, fun post h => ?_⟩
      · refine br_f (nI_ge (by omega) (by omega)) ?_
        refine hX _ ?_
        refine zq_xends (fun _ => ?_) (fun z => absurd c z)
        exact br_f (by decide) h
      · refine br_f (nI_ge (by omega) (by omega)) ?_
        refine hY _ ?_
        exact br_c (fun _ => h) (fun n1 => br_c (fun _ => h) (fun n2 => br_c (fun _ => h) (fun n3 => br_c (fun _ => h) (fun n4 => br_c (fun _ => h) (fun n5 => absurd c (fun z => z.elim n1 (fun z => z.elim n2 (fun z => z.elim n3 (fun z => z.elim n4 n5)))))))))
    · obtain ⟨r2, u2, v2, hrr2, hX2, hY2⟩ := ih (i + 1) (by omega) r T' N' D' L' K' co' ca' cb' cc' cv' cr' sg' st' dp' sc' rs' rm' mr' pc' sw' rg' sv' pg' rd' ph' pv' wh' wv' hR'
      refine ⟨r2, u2, v2, hrr2, fun post h => ?_, fun post h => ?_⟩
      · refine br_f (nI_ge (by omega) (by omega)) ?_
        refine hX _ ?_
        refine zq_xends (fun z => absurd z c) (fun _ => ?_)
        exact br_t rfl (nm_r (nI_1 i) (hX2 post h))
      · refine br_f (nI_ge (by omega) (by omega)) ?_
        refine hY _ ?_
        refine br_f (fun z => c (Or.inl z)) ?_
        refine br_f (fun z => c (Or.inr (Or.inl z))) ?_
        refine br_f (fun z => c (Or.inr (Or.inr (Or.inl z)))) ?_
        refine br_f (fun z => c (Or.inr (Or.inr (Or.inr (Or.inl z))))) ?_
        refine br_f (fun z => c (Or.inr (Or.inr (Or.inr (Or.inr z))))) ?_
        exact nm_r (nI_1 i) (hY2 post h)
theorem zq_jint (w : Int64) {M : Nat} (hM : M ≤ 32) : ∀ k i : Nat, i + k = M → ∀ (a : Int32) (T N D L K : Nat) (co ca cb cc cv cr sg st dp sc rs rm mr pc sw rg sv pg rd ph pv wh wv : Nat → Int32), zq_RL T N D L K co ca cb cc st dp sc rm mr pc sw sv pg rd ph pv → zq_J zq_rr (fun post => wX_interleave_16 post w (nI M) (k + 1) a (nI i) (nI T) (nI N) (nI D) (nI L) (nI K) co ca cb cc cv cr sg st dp sc rs rm mr pc sw rg sv) (fun post => wY_interleave_16 post w (nI M) (k + 1) a (nI i) (nI T) (nI N) (nI D) (nI L) (nI K) pg cv cr st dp sc rs mr rd pc rg ph pv wh wv) := by
  intro k
  induction k with
  | zero =>
    intro i hi a T N D L K co ca cb cc cv cr sg st dp sc rs rm mr pc sw rg sv pg rd ph pv wh wv hR
    exact ⟨a, (nI T, nI N, nI D, nI L, nI K, co, ca, cb, cc, cv, cr, sg, st, dp, sc, rs, rm, mr, pc, sw, rg, sv), (nI T, nI N, nI D, nI L, nI K, pg, cv, cr, st, dp, sc, rs, mr, rd, pc, rg, ph, pv, wh, wv), zq_rr_mk hR, fun post h => br_t (nI_le (by omega) (by omega)) h, fun post h => br_t (nI_le (by omega) (by omega)) h⟩
  | succ k ih =>
    intro i hi a T N D L K co ca cb cc cv cr sg st dp sc rs rm mr pc sw rg sv pg rd ph pv wh wv hR
    obtain ⟨p, ep⟩ : ∃ p : Int32, (((w.toUInt64 >>> ((2 * nI i).toInt64.toUInt64 &&& Int64.toUInt64 63)).toInt64) &&& 3).toInt32 = p := ⟨_, rfl⟩
    obtain ⟨r, u, v, hrr, hX, hY⟩ := zq_jstep (cv := cv) (cr := cr) (sg := sg) (rs := rs) (rg := rg) (wh := wh) (wv := wv) hR p
    revert hX hY
    refine zq_rr_el (P := fun u v => (∀ post : Int32 → SX → Prop, post r u → wpX_stepThread post (nI T, nI N, nI D, nI L, nI K, co, ca, cb, cc, cv, cr, sg, st, dp, sc, rs, rm, mr, pc, sw, rg, sv) p) → (∀ post : Int32 → SY → Prop, post r v → wpY_step post (nI T, nI N, nI D, nI L, nI K, pg, cv, cr, st, dp, sc, rs, mr, rd, pc, rg, ph, pv, wh, wv) p) → zq_J zq_rr (fun post => wX_interleave_16 post w (nI M) (k + 1 + 1) a (nI i) (nI T) (nI N) (nI D) (nI L) (nI K) co ca cb cc cv cr sg st dp sc rs rm mr pc sw rg sv) (fun post => wY_interleave_16 post w (nI M) (k + 1 + 1) a (nI i) (nI T) (nI N) (nI D) (nI L) (nI K) pg cv cr st dp sc rs mr rd pc rg ph pv wh wv)) ?_ hrr
    intro T' N' D' L' K' co' ca' cb' cc' cv' cr' sg' st' dp' sc' rs' rm' mr' pc' sw' rg' sv' pg' rd' ph' pv' wh' wv' hR' hX hY
    by_cases c : r = 2
    · obtain ⟨r2, u2, v2, hrr2, hX2, hY2⟩ := ih (i + 1) (by omega) (a + 1) T' N' D' L' K' co' ca' cb' cc' cv' cr' sg' st' dp' sc' rs' rm' mr' pc' sw' rg' sv' pg' rd' ph' pv' wh' wv' hR'
      refine ⟨r2, u2, v2, hrr2, fun post h => ?_, fun post h => ?_⟩
      · refine br_f (nI_ge (by omega) (by omega)) ?_
        refine nm_r ep ?_
        refine hX _ ?_
        exact br_t c (nm_e (nm_r (nI_1 i) (hX2 post h)))
      · refine br_f (nI_ge (by omega) (by omega)) ?_
        refine nm_r ep ?_
        refine hY _ ?_
        exact br_t c (nm_e (nm_r (nI_1 i) (hY2 post h)))
    · obtain ⟨r2, u2, v2, hrr2, hX2, hY2⟩ := ih (i + 1) (by omega) a T' N' D' L' K' co' ca' cb' cc' cv' cr' sg' st' dp' sc' rs' rm' mr' pc' sw' rg' sv' pg' rd' ph' pv' wh' wv' hR'
      refine ⟨r2, u2, v2, hrr2, fun post h => ?_, fun post h => ?_⟩
      · refine br_f (nI_ge (by omega) (by omega)) ?_
        refine nm_r ep ?_
        refine hX _ ?_
        exact br_f c (nm_r (nI_1 i) (hX2 post h))
      · refine br_f (nI_ge (by omega) (by omega)) ?_
        refine nm_r ep ?_
        refine hY _ ?_
        exact br_f c (nm_r (nI_1 i) (hY2 post h))
end
section
abbrev zq_ok (k : Nat) (a b c : Int32) : Prop := (zq_ua k → zq_lo 4 a) ∧ (zq_ub k → zq_lo 4 b) ∧ (zq_uc k → zq_lo 4 c) ∧ (zq_uj k → zq_lo 64 c)
theorem zq_lo_out {M : Nat} (hM : M < 2 ^ 31) {x : Int32} (h : ¬ zq_lo M x) : x < 0 ∨ nI M ≤ x := by
  rcases pk_ix x hM with c | c | c
  · exact Or.inl c
  · exact Or.inr c
  · exact absurd c h
theorem zq_lo4 {x : Int32} {P Q : Prop} (h1 : zq_lo 4 x → Q) (h0 : ¬ zq_lo 4 x → P) : (x < 0 → P) ∧ (¬ x < 0 → ((x ≤ 3 → Q) ∧ (¬ x ≤ 3 → P))) := by
  by_cases c : zq_lo 4 x
  · obtain ⟨j, hj, rfl⟩ := c
    exact br_f (nI_pos (by omega)) (br_t (nI_le (b := 3) (by omega) (by omega)) (h1 ⟨j, hj, rfl⟩))
  · refine br_c (fun _ => h0 c) (fun n => ?_)
    have g : nI 4 ≤ x := (zq_lo_out (by omega) c).resolve_left n
    refine br_f (fun z => ?_) (h0 c)
    exact nI_ge (a := 3) (b := 4) (by omega) (by omega) (Int32.le_trans g z)
theorem zq_lo64 {x : Int32} {P Q : Prop} (h1 : zq_lo 64 x → Q) (h0 : ¬ zq_lo 64 x → P) : (x < 0 → P) ∧ (¬ x < 0 → ((x < 64 → Q) ∧ (¬ x < 64 → P))) := by
  by_cases c : zq_lo 64 x
  · obtain ⟨j, hj, rfl⟩ := c
    exact br_f (nI_pos (by omega)) (br_t (nI_lt (b := 64) (by omega) (by omega)) (h1 ⟨j, hj, rfl⟩))
  · refine br_c (fun _ => h0 c) (fun n => ?_)
    have g : nI 64 ≤ x := (zq_lo_out (by omega) c).resolve_left n
    exact br_f (Int32.not_lt.mpr g) (h0 c)
section
variable {T N D L K : Nat} {co ca cb cc cv cr sg st dp sc rs rm mr pc sw rg sv pg rd ph pv wh wv : Nat → Int32}
theorem zq_xreg {post : Int32 → Prop} {x : Int32} (h1 : zq_lo 4 x → post 1) (h0 : ¬ zq_lo 4 x → post 0) : wpX_isReg post (nI T, nI N, nI D, nI L, nI K, co, ca, cb, cc, cv, cr, sg, st, dp, sc, rs, rm, mr, pc, sw, rg, sv) x := by
  by_cases c : zq_lo 4 x
  · obtain ⟨j, hj, rfl⟩ := c
    exact br_f (nI_pos (by omega)) (br_f (nI_nlt (a := 3) (by omega) (by omega)) (h1 ⟨j, hj, rfl⟩))
  · refine br_c (fun _ => h0 c) (fun n => ?_)
    have g : nI 4 ≤ x := (zq_lo_out (by omega) c).resolve_left n
    refine br_t ?_ (h0 c)
    exact Int32.lt_of_lt_of_le (nI_lt (a := 3) (b := 4) (by omega) (by omega)) g
theorem zq_xadr {post : Int32 → Prop} {x : Int32} (h1 : zq_lo 64 x → post 1) (h0 : ¬ zq_lo 64 x → post 0) : wpX_isAddress post (nI T, nI N, nI D, nI L, nI K, co, ca, cb, cc, cv, cr, sg, st, dp, sc, rs, rm, mr, pc, sw, rg, sv) x := by
  by_cases c : zq_lo 64 x
  · obtain ⟨j, hj, rfl⟩ := c
    exact br_f (nI_pos (by omega)) (br_f (nI_ge (b := 64) (by omega) (by omega)) (h1 ⟨j, hj, rfl⟩))
  · refine br_c (fun _ => h0 c) (fun n => ?_)
    have g : nI 64 ≤ x := (zq_lo_out (by omega) c).resolve_left n
    exact br_t g (h0 c)
theorem zq_xf0 {post : Int32 → Prop} {a b c : Int32} (h1 : zq_ok 0 a b c → post 1) (h0 : ¬ zq_ok 0 a b c → post 0) : wpX_fieldsFit post (nI T, nI N, nI D, nI L, nI K, co, ca, cb, cc, cv, cr, sg, st, dp, sc, rs, rm, mr, pc, sw, rg, sv) (nI 0) a b c :=
  br_f (by decide) (br_f (by decide) (br_t rfl (h1 ⟨fun z => absurd z (by unfold zq_ua; omega), fun z => absurd z (by unfold zq_ub; omega), fun z => absurd z (by unfold zq_uc; omega), fun z => absurd z (by unfold zq_uj; omega)⟩)))
theorem zq_xf1 {post : Int32 → Prop} {a b c : Int32} (h1 : zq_ok 1 a b c → post 1) (h0 : ¬ zq_ok 1 a b c → post 0) : wpX_fieldsFit post (nI T, nI N, nI D, nI L, nI K, co, ca, cb, cc, cv, cr, sg, st, dp, sc, rs, rm, mr, pc, sw, rg, sv) (nI 1) a b c :=
  br_f (by decide) (br_f (by decide) (br_f (by decide) (br_t rfl (zq_xreg (fun ha => ⟨rfl, (h1 ⟨fun _ => ha, fun z => absurd z (by unfold zq_ub; omega), fun z => absurd z (by unfold zq_uc; omega), fun z => absurd z (by unfold zq_uj; omega)⟩)⟩) (fun n => ⟨rfl, (h0 (fun z => n (z.1 (by unfold zq_ua; omega))))⟩)))))
theorem zq_xf2 {post : Int32 → Prop} {a b c : Int32} (h1 : zq_ok 2 a b c → post 1) (h0 : ¬ zq_ok 2 a b c → post 0) : wpX_fieldsFit post (nI T, nI N, nI D, nI L, nI K, co, ca, cb, cc, cv, cr, sg, st, dp, sc, rs, rm, mr, pc, sw, rg, sv) (nI 2) a b c :=
  br_f (by decide) (br_f (by decide) (br_f (by decide) (br_f (by decide) (br_t rfl (zq_xreg (fun ha => br_f (by decide) (zq_xreg (fun hb => br_f (by decide) (zq_xreg (fun hc => br_f (by decide) (h1 ⟨fun _ => ha, fun _ => hb, fun _ => hc, fun z => absurd z (by unfold zq_uj; omega)⟩)) (fun n => br_t rfl (h0 (fun z => n (z.2.2.1 (by unfold zq_uc; omega))))))) (fun n => br_t rfl (h0 (fun z => n (z.2.1 (by unfold zq_ub; omega))))))) (fun n => br_t rfl (h0 (fun z => n (z.1 (by unfold zq_ua; omega))))))))))
theorem zq_xf3 {post : Int32 → Prop} {a b c : Int32} (h1 : zq_ok 3 a b c → post 1) (h0 : ¬ zq_ok 3 a b c → post 0) : wpX_fieldsFit post (nI T, nI N, nI D, nI L, nI K, co, ca, cb, cc, cv, cr, sg, st, dp, sc, rs, rm, mr, pc, sw, rg, sv) (nI 3) a b c :=
  br_f (by decide) (br_f (by decide) (br_f (by decide) (br_f (by decide) (br_f (by decide) (br_t rfl (zq_xreg (fun ha => br_f (by decide) (zq_xreg (fun hb => br_f (by decide) (zq_xreg (fun hc => br_f (by decide) (h1 ⟨fun _ => ha, fun _ => hb, fun _ => hc, fun z => absurd z (by unfold zq_uj; omega)⟩)) (fun n => br_t rfl (h0 (fun z => n (z.2.2.1 (by unfold zq_uc; omega))))))) (fun n => br_t rfl (h0 (fun z => n (z.2.1 (by unfold zq_ub; omega))))))) (fun n => br_t rfl (h0 (fun z => n (z.1 (by unfold zq_ua; omega)))))))))))
theorem zq_xf4 {post : Int32 → Prop} {a b c : Int32} (h1 : zq_ok 4 a b c → post 1) (h0 : ¬ zq_ok 4 a b c → post 0) : wpX_fieldsFit post (nI T, nI N, nI D, nI L, nI K, co, ca, cb, cc, cv, cr, sg, st, dp, sc, rs, rm, mr, pc, sw, rg, sv) (nI 4) a b c :=
  br_f (by decide) (br_f (by decide) (br_f (by decide) (br_f (by decide) (br_f (by decide) (br_f (by decide) (br_t rfl (zq_xreg (fun ha => br_f (by decide) (zq_xreg (fun hb => br_f (by decide) (zq_xreg (fun hc => br_f (by decide) (h1 ⟨fun _ => ha, fun _ => hb, fun _ => hc, fun z => absurd z (by unfold zq_uj; omega)⟩)) (fun n => br_t rfl (h0 (fun z => n (z.2.2.1 (by unfold zq_uc; omega))))))) (fun n => br_t rfl (h0 (fun z => n (z.2.1 (by unfold zq_ub; omega))))))) (fun n => br_t rfl (h0 (fun z => n (z.1 (by unfold zq_ua; omega))))))))))))
theorem zq_xf5 {post : Int32 → Prop} {a b c : Int32} (h1 : zq_ok 5 a b c → post 1) (h0 : ¬ zq_ok 5 a b c → post 0) : wpX_fieldsFit post (nI T, nI N, nI D, nI L, nI K, co, ca, cb, cc, cv, cr, sg, st, dp, sc, rs, rm, mr, pc, sw, rg, sv) (nI 5) a b c :=
  br_f (by decide) (br_f (by decide) (br_f (by decide) (br_f (by decide) (br_f (by decide) (br_f (by decide) (br_f (by decide) (br_t rfl (zq_xreg (fun ha => br_f (by decide) (zq_xreg (fun hb => br_f (by decide) (zq_xreg (fun hc => br_f (by decide) (h1 ⟨fun _ => ha, fun _ => hb, fun _ => hc, fun z => absurd z (by unfold zq_uj; omega)⟩)) (fun n => br_t rfl (h0 (fun z => n (z.2.2.1 (by unfold zq_uc; omega))))))) (fun n => br_t rfl (h0 (fun z => n (z.2.1 (by unfold zq_ub; omega))))))) (fun n => br_t rfl (h0 (fun z => n (z.1 (by unfold zq_ua; omega)))))))))))))
theorem zq_xf6 {post : Int32 → Prop} {a b c : Int32} (h1 : zq_ok 6 a b c → post 1) (h0 : ¬ zq_ok 6 a b c → post 0) : wpX_fieldsFit post (nI T, nI N, nI D, nI L, nI K, co, ca, cb, cc, cv, cr, sg, st, dp, sc, rs, rm, mr, pc, sw, rg, sv) (nI 6) a b c :=
  br_f (by decide) (br_f (by decide) (br_f (by decide) (br_f (by decide) (br_f (by decide) (br_f (by decide) (br_f (by decide) (br_f (by decide) (br_t rfl (zq_xadr (fun hj => ⟨rfl, (h1 ⟨fun z => absurd z (by unfold zq_ua; omega), fun z => absurd z (by unfold zq_ub; omega), fun z => absurd z (by unfold zq_uc; omega), fun _ => hj⟩)⟩) (fun n => ⟨rfl, (h0 (fun z => n (z.2.2.2 (by unfold zq_uj; omega))))⟩))))))))))
theorem zq_xf7 {post : Int32 → Prop} {a b c : Int32} (h1 : zq_ok 7 a b c → post 1) (h0 : ¬ zq_ok 7 a b c → post 0) : wpX_fieldsFit post (nI T, nI N, nI D, nI L, nI K, co, ca, cb, cc, cv, cr, sg, st, dp, sc, rs, rm, mr, pc, sw, rg, sv) (nI 7) a b c :=
  br_f (by decide) (br_f (by decide) (br_f (by decide) (br_f (by decide) (br_f (by decide) (br_f (by decide) (br_f (by decide) (br_f (by decide) (br_f (by decide) (br_t rfl (zq_xreg (fun ha => br_f (by decide) (zq_xadr (fun hj => br_f (by decide) (h1 ⟨fun _ => ha, fun z => absurd z (by unfold zq_ub; omega), fun z => absurd z (by unfold zq_uc; omega), fun _ => hj⟩)) (fun n => br_t rfl (h0 (fun z => n (z.2.2.2 (by unfold zq_uj; omega))))))) (fun n => br_t rfl (h0 (fun z => n (z.1 (by unfold zq_ua; omega)))))))))))))))
theorem zq_xf8 {post : Int32 → Prop} {a b c : Int32} (h1 : zq_ok 8 a b c → post 1) (h0 : ¬ zq_ok 8 a b c → post 0) : wpX_fieldsFit post (nI T, nI N, nI D, nI L, nI K, co, ca, cb, cc, cv, cr, sg, st, dp, sc, rs, rm, mr, pc, sw, rg, sv) (nI 8) a b c :=
  br_f (by decide) (br_f (by decide) (br_f (by decide) (br_f (by decide) (br_f (by decide) (br_f (by decide) (br_f (by decide) (br_f (by decide) (br_f (by decide) (br_f (by decide) (br_t rfl (zq_xreg (fun ha => br_f (by decide) (zq_xreg (fun hb => br_f (by decide) (h1 ⟨fun _ => ha, fun _ => hb, fun z => absurd z (by unfold zq_uc; omega), fun z => absurd z (by unfold zq_uj; omega)⟩)) (fun n => br_t rfl (h0 (fun z => n (z.2.1 (by unfold zq_ub; omega))))))) (fun n => br_t rfl (h0 (fun z => n (z.1 (by unfold zq_ua; omega))))))))))))))))
theorem zq_xf9 {post : Int32 → Prop} {a b c : Int32} (h1 : zq_ok 9 a b c → post 1) (h0 : ¬ zq_ok 9 a b c → post 0) : wpX_fieldsFit post (nI T, nI N, nI D, nI L, nI K, co, ca, cb, cc, cv, cr, sg, st, dp, sc, rs, rm, mr, pc, sw, rg, sv) (nI 9) a b c :=
  br_f (by decide) (br_f (by decide) (br_f (by decide) (br_f (by decide) (br_f (by decide) (br_f (by decide) (br_f (by decide) (br_f (by decide) (br_f (by decide) (br_f (by decide) (br_f (by decide) (br_t rfl (zq_xreg (fun ha => br_f (by decide) (zq_xreg (fun hb => br_f (by decide) (h1 ⟨fun _ => ha, fun _ => hb, fun z => absurd z (by unfold zq_uc; omega), fun z => absurd z (by unfold zq_uj; omega)⟩)) (fun n => br_t rfl (h0 (fun z => n (z.2.1 (by unfold zq_ub; omega))))))) (fun n => br_t rfl (h0 (fun z => n (z.1 (by unfold zq_ua; omega)))))))))))))))))
theorem zq_xf10 {post : Int32 → Prop} {a b c : Int32} (h1 : zq_ok 10 a b c → post 1) (h0 : ¬ zq_ok 10 a b c → post 0) : wpX_fieldsFit post (nI T, nI N, nI D, nI L, nI K, co, ca, cb, cc, cv, cr, sg, st, dp, sc, rs, rm, mr, pc, sw, rg, sv) (nI 10) a b c :=
  br_f (by decide) (br_f (by decide) (br_f (by decide) (br_f (by decide) (br_f (by decide) (br_f (by decide) (br_f (by decide) (br_f (by decide) (br_f (by decide) (br_f (by decide) (br_f (by decide) (br_f (by decide) (br_t rfl (h1 ⟨fun z => absurd z (by unfold zq_ua; omega), fun z => absurd z (by unfold zq_ub; omega), fun z => absurd z (by unfold zq_uc; omega), fun z => absurd z (by unfold zq_uj; omega)⟩)))))))))))))
theorem zq_xf11 {post : Int32 → Prop} {a b c : Int32} (h1 : zq_ok 11 a b c → post 1) (h0 : ¬ zq_ok 11 a b c → post 0) : wpX_fieldsFit post (nI T, nI N, nI D, nI L, nI K, co, ca, cb, cc, cv, cr, sg, st, dp, sc, rs, rm, mr, pc, sw, rg, sv) (nI 11) a b c :=
  br_f (by decide) (br_f (by decide) (br_f (by decide) (br_f (by decide) (br_f (by decide) (br_f (by decide) (br_f (by decide) (br_f (by decide) (br_f (by decide) (br_f (by decide) (br_f (by decide) (br_f (by decide) (br_f (by decide) (br_t rfl (h1 ⟨fun z => absurd z (by unfold zq_ua; omega), fun z => absurd z (by unfold zq_ub; omega), fun z => absurd z (by unfold zq_uc; omega), fun z => absurd z (by unfold zq_uj; omega)⟩))))))))))))))
theorem zq_xf12 {post : Int32 → Prop} {a b c : Int32} (h1 : zq_ok 12 a b c → post 1) (h0 : ¬ zq_ok 12 a b c → post 0) : wpX_fieldsFit post (nI T, nI N, nI D, nI L, nI K, co, ca, cb, cc, cv, cr, sg, st, dp, sc, rs, rm, mr, pc, sw, rg, sv) (nI 12) a b c :=
  br_f (by decide) (br_f (by decide) (br_f (by decide) (br_f (by decide) (br_f (by decide) (br_f (by decide) (br_f (by decide) (br_f (by decide) (br_f (by decide) (br_f (by decide) (br_f (by decide) (br_f (by decide) (br_f (by decide) (br_f (by decide) (br_t rfl (zq_xadr (fun hj => ⟨rfl, (h1 ⟨fun z => absurd z (by unfold zq_ua; omega), fun z => absurd z (by unfold zq_ub; omega), fun z => absurd z (by unfold zq_uc; omega), fun _ => hj⟩)⟩) (fun n => ⟨rfl, (h0 (fun z => n (z.2.2.2 (by unfold zq_uj; omega))))⟩))))))))))))))))
theorem zq_xf13 {post : Int32 → Prop} {a b c : Int32} (h1 : zq_ok 13 a b c → post 1) (h0 : ¬ zq_ok 13 a b c → post 0) : wpX_fieldsFit post (nI T, nI N, nI D, nI L, nI K, co, ca, cb, cc, cv, cr, sg, st, dp, sc, rs, rm, mr, pc, sw, rg, sv) (nI 13) a b c :=
  br_f (by decide) (br_f (by decide) (br_f (by decide) (br_f (by decide) (br_f (by decide) (br_f (by decide) (br_f (by decide) (br_f (by decide) (br_f (by decide) (br_f (by decide) (br_f (by decide) (br_f (by decide) (br_f (by decide) (br_f (by decide) (br_f (by decide) (br_t rfl (zq_xadr (fun hj => ⟨rfl, (h1 ⟨fun z => absurd z (by unfold zq_ua; omega), fun z => absurd z (by unfold zq_ub; omega), fun z => absurd z (by unfold zq_uc; omega), fun _ => hj⟩)⟩) (fun n => ⟨rfl, (h0 (fun z => n (z.2.2.2 (by unfold zq_uj; omega))))⟩)))))))))))))))))
theorem zq_xf14 {post : Int32 → Prop} {a b c : Int32} (h1 : zq_ok 14 a b c → post 1) (h0 : ¬ zq_ok 14 a b c → post 0) : wpX_fieldsFit post (nI T, nI N, nI D, nI L, nI K, co, ca, cb, cc, cv, cr, sg, st, dp, sc, rs, rm, mr, pc, sw, rg, sv) (nI 14) a b c :=
  br_f (by decide) (br_f (by decide) (br_f (by decide) (br_f (by decide) (br_f (by decide) (br_f (by decide) (br_f (by decide) (br_f (by decide) (br_f (by decide) (br_f (by decide) (br_f (by decide) (br_f (by decide) (br_f (by decide) (br_f (by decide) (br_f (by decide) (br_f (by decide) (br_t rfl (h1 ⟨fun z => absurd z (by unfold zq_ua; omega), fun z => absurd z (by unfold zq_ub; omega), fun z => absurd z (by unfold zq_uc; omega), fun z => absurd z (by unfold zq_uj; omega)⟩)))))))))))))))))
theorem zq_yf0 {post : Int32 → SY → Prop} {a b c : Int32} (hL : L < 64) (h1 : zq_ok 0 a b c → wY_emit_178 post (nI 0) a b c (nI T) (nI N) (nI D) (nI L) (nI K) pg cv cr st dp sc rs mr rd pc rg ph pv wh wv) (h0 : ¬ zq_ok 0 a b c → post (-1) (nI T, nI N, nI D, nI L, nI K, pg, cv, cr, st, dp, sc, rs, mr, rd, pc, rg, ph, pv, wh, wv)) : wpY_emit post (nI T, nI N, nI D, nI L, nI K, pg, cv, cr, st, dp, sc, rs, mr, rd, pc, rg, ph, pv, wh, wv) (nI 0) a b c :=
  br_f (nI_ge (a := L) (b := 64) (by omega) (by omega)) (br_f (by decide) (br_t (by decide) (br_t (by decide) (br_f (by decide) (br_f (by decide) (br_f (by decide) (br_f (by decide) (br_f (by decide) (br_f (by decide) ((br_t rfl (br_t rfl (br_f (by decide) (br_f (by decide) (br_t rfl (br_t rfl (br_t rfl (br_t rfl (h1 ⟨fun z => absurd z (by unfold zq_ua; omega), fun z => absurd z (by unfold zq_ub; omega), fun z => absurd z (by unfold zq_uc; omega), fun z => absurd z (by unfold zq_uj; omega)⟩)))))))))))))))))))
theorem zq_yf1 {post : Int32 → SY → Prop} {a b c : Int32} (hL : L < 64) (h1 : zq_ok 1 a b c → wY_emit_178 post (nI 1) a b c (nI T) (nI N) (nI D) (nI L) (nI K) pg cv cr st dp sc rs mr rd pc rg ph pv wh wv) (h0 : ¬ zq_ok 1 a b c → post (-1) (nI T, nI N, nI D, nI L, nI K, pg, cv, cr, st, dp, sc, rs, mr, rd, pc, rg, ph, pv, wh, wv)) : wpY_emit post (nI T, nI N, nI D, nI L, nI K, pg, cv, cr, st, dp, sc, rs, mr, rd, pc, rg, ph, pv, wh, wv) (nI 1) a b c :=
  br_f (nI_ge (a := L) (b := 64) (by omega) (by omega)) (br_f (by decide) (br_t (by decide) (br_t (by decide) (br_f (by decide) (br_f (by decide) (br_f (by decide) (br_f (by decide) (br_f (by decide) (br_f (by decide) ((br_t rfl (br_t rfl (br_t rfl (zq_lo4 (fun ha => (br_t rfl (br_t rfl (br_t rfl (br_t rfl (h1 ⟨fun _ => ha, fun z => absurd z (by unfold zq_ub; omega), fun z => absurd z (by unfold zq_uc; omega), fun z => absurd z (by unfold zq_uj; omega)⟩)))))) (fun n => (h0 (fun z => n (z.1 (by unfold zq_ua; omega)))))))))))))))))))
theorem zq_yf2 {post : Int32 → SY → Prop} {a b c : Int32} (hL : L < 64) (h1 : zq_ok 2 a b c → wY_emit_178 post (nI 2) a b c (nI T) (nI N) (nI D) (nI L) (nI K) pg cv cr st dp sc rs mr rd pc rg ph pv wh wv) (h0 : ¬ zq_ok 2 a b c → post (-1) (nI T, nI N, nI D, nI L, nI K, pg, cv, cr, st, dp, sc, rs, mr, rd, pc, rg, ph, pv, wh, wv)) : wpY_emit post (nI T, nI N, nI D, nI L, nI K, pg, cv, cr, st, dp, sc, rs, mr, rd, pc, rg, ph, pv, wh, wv) (nI 2) a b c :=
  br_f (nI_ge (a := L) (b := 64) (by omega) (by omega)) (br_f (by decide) (br_t (by decide) (br_f (by decide) (br_f (by decide) (br_f (by decide) (br_f (by decide) (br_f (by decide) (br_f (by decide) (br_f (by decide) (br_f (by decide) ((br_f (by decide) (zq_lo4 (fun ha => (br_f (by decide) (zq_lo4 (fun hb => (br_f (by decide) (zq_lo4 (fun hc => (br_t rfl (h1 ⟨fun _ => ha, fun _ => hb, fun _ => hc, fun z => absurd z (by unfold zq_uj; omega)⟩))) (fun n => (h0 (fun z => n (z.2.2.1 (by unfold zq_uc; omega)))))))) (fun n => (h0 (fun z => n (z.2.1 (by unfold zq_ub; omega)))))))) (fun n => (h0 (fun z => n (z.1 (by unfold zq_ua; omega))))))))))))))))))
theorem zq_yf3 {post : Int32 → SY → Prop} {a b c : Int32} (hL : L < 64) (h1 : zq_ok 3 a b c → wY_emit_178 post (nI 3) a b c (nI T) (nI N) (nI D) (nI L) (nI K) pg cv cr st dp sc rs mr rd pc rg ph pv wh wv) (h0 : ¬ zq_ok 3 a b c → post (-1) (nI T, nI N, nI D, nI L, nI K, pg, cv, cr, st, dp, sc, rs, mr, rd, pc, rg, ph, pv, wh, wv)) : wpY_emit post (nI T, nI N, nI D, nI L, nI K, pg, cv, cr, st, dp, sc, rs, mr, rd, pc, rg, ph, pv, wh, wv) (nI 3) a b c :=
  br_f (nI_ge (a := L) (b := 64) (by omega) (by omega)) (br_f (by decide) (br_t (by decide) (br_f (by decide) (br_f (by decide) (br_f (by decide) (br_f (by decide) (br_f (by decide) (br_f (by decide) (br_f (by decide) (br_f (by decide) ((br_f (by decide) (zq_lo4 (fun ha => (br_f (by decide) (zq_lo4 (fun hb => (br_f (by decide) (zq_lo4 (fun hc => (br_t rfl (h1 ⟨fun _ => ha, fun _ => hb, fun _ => hc, fun z => absurd z (by unfold zq_uj; omega)⟩))) (fun n => (h0 (fun z => n (z.2.2.1 (by unfold zq_uc; omega)))))))) (fun n => (h0 (fun z => n (z.2.1 (by unfold zq_ub; omega)))))))) (fun n => (h0 (fun z => n (z.1 (by unfold zq_ua; omega))))))))))))))))))
theorem zq_yf4 {post : Int32 → SY → Prop} {a b c : Int32} (hL : L < 64) (h1 : zq_ok 4 a b c → wY_emit_178 post (nI 4) a b c (nI T) (nI N) (nI D) (nI L) (nI K) pg cv cr st dp sc rs mr rd pc rg ph pv wh wv) (h0 : ¬ zq_ok 4 a b c → post (-1) (nI T, nI N, nI D, nI L, nI K, pg, cv, cr, st, dp, sc, rs, mr, rd, pc, rg, ph, pv, wh, wv)) : wpY_emit post (nI T, nI N, nI D, nI L, nI K, pg, cv, cr, st, dp, sc, rs, mr, rd, pc, rg, ph, pv, wh, wv) (nI 4) a b c :=
  br_f (nI_ge (a := L) (b := 64) (by omega) (by omega)) (br_f (by decide) (br_t (by decide) (br_f (by decide) (br_f (by decide) (br_f (by decide) (br_f (by decide) (br_f (by decide) (br_f (by decide) (br_f (by decide) (br_f (by decide) ((br_f (by decide) (zq_lo4 (fun ha => (br_f (by decide) (zq_lo4 (fun hb => (br_f (by decide) (zq_lo4 (fun hc => (br_t rfl (h1 ⟨fun _ => ha, fun _ => hb, fun _ => hc, fun z => absurd z (by unfold zq_uj; omega)⟩))) (fun n => (h0 (fun z => n (z.2.2.1 (by unfold zq_uc; omega)))))))) (fun n => (h0 (fun z => n (z.2.1 (by unfold zq_ub; omega)))))))) (fun n => (h0 (fun z => n (z.1 (by unfold zq_ua; omega))))))))))))))))))
theorem zq_yf5 {post : Int32 → SY → Prop} {a b c : Int32} (hL : L < 64) (h1 : zq_ok 5 a b c → wY_emit_178 post (nI 5) a b c (nI T) (nI N) (nI D) (nI L) (nI K) pg cv cr st dp sc rs mr rd pc rg ph pv wh wv) (h0 : ¬ zq_ok 5 a b c → post (-1) (nI T, nI N, nI D, nI L, nI K, pg, cv, cr, st, dp, sc, rs, mr, rd, pc, rg, ph, pv, wh, wv)) : wpY_emit post (nI T, nI N, nI D, nI L, nI K, pg, cv, cr, st, dp, sc, rs, mr, rd, pc, rg, ph, pv, wh, wv) (nI 5) a b c :=
  br_f (nI_ge (a := L) (b := 64) (by omega) (by omega)) (br_f (by decide) (br_t (by decide) (br_f (by decide) (br_f (by decide) (br_f (by decide) (br_f (by decide) (br_f (by decide) (br_f (by decide) (br_f (by decide) (br_f (by decide) ((br_f (by decide) (zq_lo4 (fun ha => (br_f (by decide) (zq_lo4 (fun hb => (br_f (by decide) (zq_lo4 (fun hc => (br_t rfl (h1 ⟨fun _ => ha, fun _ => hb, fun _ => hc, fun z => absurd z (by unfold zq_uj; omega)⟩))) (fun n => (h0 (fun z => n (z.2.2.1 (by unfold zq_uc; omega)))))))) (fun n => (h0 (fun z => n (z.2.1 (by unfold zq_ub; omega)))))))) (fun n => (h0 (fun z => n (z.1 (by unfold zq_ua; omega))))))))))))))))))
theorem zq_yf6 {post : Int32 → SY → Prop} {a b c : Int32} (hL : L < 64) (h1 : zq_ok 6 a b c → wY_emit_178 post (nI 6) a b c (nI T) (nI N) (nI D) (nI L) (nI K) pg cv cr st dp sc rs mr rd pc rg ph pv wh wv) (h0 : ¬ zq_ok 6 a b c → post (-1) (nI T, nI N, nI D, nI L, nI K, pg, cv, cr, st, dp, sc, rs, mr, rd, pc, rg, ph, pv, wh, wv)) : wpY_emit post (nI T, nI N, nI D, nI L, nI K, pg, cv, cr, st, dp, sc, rs, mr, rd, pc, rg, ph, pv, wh, wv) (nI 6) a b c :=
  br_f (nI_ge (a := L) (b := 64) (by omega) (by omega)) (br_f (by decide) (br_t (by decide) (br_f (by decide) (br_t (by decide) (br_f (by decide) (br_f (by decide) (br_t rfl (br_t rfl (br_t rfl (br_f (by decide) (br_f (by decide) (br_t rfl (br_t rfl (br_t rfl (br_f (by decide) (zq_lo64 (fun hj => (h1 ⟨fun z => absurd z (by unfold zq_ua; omega), fun z => absurd z (by unfold zq_ub; omega), fun z => absurd z (by unfold zq_uc; omega), fun _ => hj⟩)) (fun n => (h0 (fun z => n (z.2.2.2 (by unfold zq_uj; omega)))))))))))))))))))))
theorem zq_yf7 {post : Int32 → SY → Prop} {a b c : Int32} (hL : L < 64) (h1 : zq_ok 7 a b c → wY_emit_178 post (nI 7) a b c (nI T) (nI N) (nI D) (nI L) (nI K) pg cv cr st dp sc rs mr rd pc rg ph pv wh wv) (h0 : ¬ zq_ok 7 a b c → post (-1) (nI T, nI N, nI D, nI L, nI K, pg, cv, cr, st, dp, sc, rs, mr, rd, pc, rg, ph, pv, wh, wv)) : wpY_emit post (nI T, nI N, nI D, nI L, nI K, pg, cv, cr, st, dp, sc, rs, mr, rd, pc, rg, ph, pv, wh, wv) (nI 7) a b c :=
  br_f (nI_ge (a := L) (b := 64) (by omega) (by omega)) (br_f (by decide) (br_t (by decide) (br_f (by decide) (br_t (by decide) (br_f (by decide) (br_f (by decide) (br_f (by decide) (br_t rfl (br_t rfl (br_t rfl (br_f (by decide) (br_t rfl (zq_lo4 (fun ha => (br_t rfl (br_t rfl (br_t rfl (br_f (by decide) (zq_lo64 (fun hj => (h1 ⟨fun _ => ha, fun z => absurd z (by unfold zq_ub; omega), fun z => absurd z (by unfold zq_uc; omega), fun _ => hj⟩)) (fun n => (h0 (fun z => n (z.2.2.2 (by unfold zq_uj; omega))))))))))) (fun n => (h0 (fun z => n (z.1 (by unfold zq_ua; omega))))))))))))))))))
theorem zq_yf8 {post : Int32 → SY → Prop} {a b c : Int32} (hL : L < 64) (h1 : zq_ok 8 a b c → wY_emit_178 post (nI 8) a b c (nI T) (nI N) (nI D) (nI L) (nI K) pg cv cr st dp sc rs mr rd pc rg ph pv wh wv) (h0 : ¬ zq_ok 8 a b c → post (-1) (nI T, nI N, nI D, nI L, nI K, pg, cv, cr, st, dp, sc, rs, mr, rd, pc, rg, ph, pv, wh, wv)) : wpY_emit post (nI T, nI N, nI D, nI L, nI K, pg, cv, cr, st, dp, sc, rs, mr, rd, pc, rg, ph, pv, wh, wv) (nI 8) a b c :=
  br_f (nI_ge (a := L) (b := 64) (by omega) (by omega)) (br_f (by decide) (br_t (by decide) (br_f (by decide) (br_t (by decide) (br_t rfl (br_f (by decide) (br_f (by decide) (br_f (by decide) (br_f (by decide) ((br_t rfl (br_f (by decide) (zq_lo4 (fun ha => (br_t rfl (br_f (by decide) (zq_lo4 (fun hb => (br_t rfl (br_t rfl (h1 ⟨fun _ => ha, fun _ => hb, fun z => absurd z (by unfold zq_uc; omega), fun z => absurd z (by unfold zq_uj; omega)⟩)))) (fun n => (h0 (fun z => n (z.2.1 (by unfold zq_ub; omega))))))))) (fun n => (h0 (fun z => n (z.1 (by unfold zq_ua; omega))))))))))))))))))
theorem zq_yf9 {post : Int32 → SY → Prop} {a b c : Int32} (hL : L < 64) (h1 : zq_ok 9 a b c → wY_emit_178 post (nI 9) a b c (nI T) (nI N) (nI D) (nI L) (nI K) pg cv cr st dp sc rs mr rd pc rg ph pv wh wv) (h0 : ¬ zq_ok 9 a b c → post (-1) (nI T, nI N, nI D, nI L, nI K, pg, cv, cr, st, dp, sc, rs, mr, rd, pc, rg, ph, pv, wh, wv)) : wpY_emit post (nI T, nI N, nI D, nI L, nI K, pg, cv, cr, st, dp, sc, rs, mr, rd, pc, rg, ph, pv, wh, wv) (nI 9) a b c :=
  br_f (nI_ge (a := L) (b := 64) (by omega) (by omega)) (br_f (by decide) (br_t (by decide) (br_f (by decide) (br_t (by decide) (br_f (by decide) (br_t rfl (br_f (by decide) (br_f (by decide) (br_f (by decide) (br_f (by decide) ((br_t rfl (br_f (by decide) (zq_lo4 (fun ha => (br_t rfl (br_f (by decide) (zq_lo4 (fun hb => (br_t rfl (br_t rfl (h1 ⟨fun _ => ha, fun _ => hb, fun z => absurd z (by unfold zq_uc; omega), fun z => absurd z (by unfold zq_uj; omega)⟩)))) (fun n => (h0 (fun z => n (z.2.1 (by unfold zq_ub; omega))))))))) (fun n => (h0 (fun z => n (z.1 (by unfold zq_ua; omega)))))))))))))))))))
theorem zq_yf10 {post : Int32 → SY → Prop} {a b c : Int32} (hL : L < 64) (h1 : zq_ok 10 a b c → wY_emit_178 post (nI 10) a b c (nI T) (nI N) (nI D) (nI L) (nI K) pg cv cr st dp sc rs mr rd pc rg ph pv wh wv) (h0 : ¬ zq_ok 10 a b c → post (-1) (nI T, nI N, nI D, nI L, nI K, pg, cv, cr, st, dp, sc, rs, mr, rd, pc, rg, ph, pv, wh, wv)) : wpY_emit post (nI T, nI N, nI D, nI L, nI K, pg, cv, cr, st, dp, sc, rs, mr, rd, pc, rg, ph, pv, wh, wv) (nI 10) a b c :=
  br_f (nI_ge (a := L) (b := 64) (by omega) (by omega)) (br_f (by decide) (br_t (by decide) (br_f (by decide) (br_t (by decide) (br_f (by decide) (br_f (by decide) (br_f (by decide) (br_f (by decide) (br_f (by decide) (br_f (by decide) ((br_t rfl (br_t rfl (br_f (by decide) (br_f (by decide) (br_t rfl (br_t rfl (br_t rfl (br_t rfl (h1 ⟨fun z => absurd z (by unfold zq_ua; omega), fun z => absurd z (by unfold zq_ub; omega), fun z => absurd z (by unfold zq_uc; omega), fun z => absurd z (by unfold zq_uj; omega)⟩))))))))))))))))))))
theorem zq_yf11 {post : Int32 → SY → Prop} {a b c : Int32} (hL : L < 64) (h1 : zq_ok 11 a b c → wY_emit_178 post (nI 11) a b c (nI T) (nI N) (nI D) (nI L) (nI K) pg cv cr st dp sc rs mr rd pc rg ph pv wh wv) (h0 : ¬ zq_ok 11 a b c → post (-1) (nI T, nI N, nI D, nI L, nI K, pg, cv, cr, st, dp, sc, rs, mr, rd, pc, rg, ph, pv, wh, wv)) : wpY_emit post (nI T, nI N, nI D, nI L, nI K, pg, cv, cr, st, dp, sc, rs, mr, rd, pc, rg, ph, pv, wh, wv) (nI 11) a b c :=
  br_f (nI_ge (a := L) (b := 64) (by omega) (by omega)) (br_f (by decide) (br_t (by decide) (br_f (by decide) (br_t (by decide) (br_f (by decide) (br_f (by decide) (br_f (by decide) (br_f (by decide) (br_f (by decide) (br_f (by decide) ((br_t rfl (br_t rfl (br_f (by decide) (br_f (by decide) (br_t rfl (br_t rfl (br_t rfl (br_t rfl (h1 ⟨fun z => absurd z (by unfold zq_ua; omega), fun z => absurd z (by unfold zq_ub; omega), fun z => absurd z (by unfold zq_uc; omega), fun z => absurd z (by unfold zq_uj; omega)⟩))))))))))))))))))))
theorem zq_yf12 {post : Int32 → SY → Prop} {a b c : Int32} (hL : L < 64) (h1 : zq_ok 12 a b c → wY_emit_178 post (nI 12) a b c (nI T) (nI N) (nI D) (nI L) (nI K) pg cv cr st dp sc rs mr rd pc rg ph pv wh wv) (h0 : ¬ zq_ok 12 a b c → post (-1) (nI T, nI N, nI D, nI L, nI K, pg, cv, cr, st, dp, sc, rs, mr, rd, pc, rg, ph, pv, wh, wv)) : wpY_emit post (nI T, nI N, nI D, nI L, nI K, pg, cv, cr, st, dp, sc, rs, mr, rd, pc, rg, ph, pv, wh, wv) (nI 12) a b c :=
  br_f (nI_ge (a := L) (b := 64) (by omega) (by omega)) (br_f (by decide) (br_t (by decide) (br_f (by decide) (br_t (by decide) (br_f (by decide) (br_f (by decide) (br_f (by decide) (br_f (by decide) (br_t rfl (br_t rfl (br_t rfl (br_f (by decide) (br_f (by decide) (br_t rfl (br_t rfl (br_t rfl (br_f (by decide) (zq_lo64 (fun hj => (h1 ⟨fun z => absurd z (by unfold zq_ua; omega), fun z => absurd z (by unfold zq_ub; omega), fun z => absurd z (by unfold zq_uc; omega), fun _ => hj⟩)) (fun n => (h0 (fun z => n (z.2.2.2 (by unfold zq_uj; omega)))))))))))))))))))))))
theorem zq_yf13 {post : Int32 → SY → Prop} {a b c : Int32} (hL : L < 64) (h1 : zq_ok 13 a b c → wY_emit_178 post (nI 13) a b c (nI T) (nI N) (nI D) (nI L) (nI K) pg cv cr st dp sc rs mr rd pc rg ph pv wh wv) (h0 : ¬ zq_ok 13 a b c → post (-1) (nI T, nI N, nI D, nI L, nI K, pg, cv, cr, st, dp, sc, rs, mr, rd, pc, rg, ph, pv, wh, wv)) : wpY_emit post (nI T, nI N, nI D, nI L, nI K, pg, cv, cr, st, dp, sc, rs, mr, rd, pc, rg, ph, pv, wh, wv) (nI 13) a b c :=
  br_f (nI_ge (a := L) (b := 64) (by omega) (by omega)) (br_f (by decide) (br_t (by decide) (br_f (by decide) (br_t (by decide) (br_f (by decide) (br_f (by decide) (br_f (by decide) (br_f (by decide) (br_f (by decide) (br_t rfl (br_t rfl (br_t rfl (br_f (by decide) (br_f (by decide) (br_t rfl (br_t rfl (br_t rfl (br_f (by decide) (zq_lo64 (fun hj => (h1 ⟨fun z => absurd z (by unfold zq_ua; omega), fun z => absurd z (by unfold zq_ub; omega), fun z => absurd z (by unfold zq_uc; omega), fun _ => hj⟩)) (fun n => (h0 (fun z => n (z.2.2.2 (by unfold zq_uj; omega))))))))))))))))))))))))
theorem zq_yf14 {post : Int32 → SY → Prop} {a b c : Int32} (hL : L < 64) (h1 : zq_ok 14 a b c → wY_emit_178 post (nI 14) a b c (nI T) (nI N) (nI D) (nI L) (nI K) pg cv cr st dp sc rs mr rd pc rg ph pv wh wv) (h0 : ¬ zq_ok 14 a b c → post (-1) (nI T, nI N, nI D, nI L, nI K, pg, cv, cr, st, dp, sc, rs, mr, rd, pc, rg, ph, pv, wh, wv)) : wpY_emit post (nI T, nI N, nI D, nI L, nI K, pg, cv, cr, st, dp, sc, rs, mr, rd, pc, rg, ph, pv, wh, wv) (nI 14) a b c :=
  br_f (nI_ge (a := L) (b := 64) (by omega) (by omega)) (br_f (by decide) (br_t (by decide) (br_f (by decide) (br_t (by decide) (br_f (by decide) (br_f (by decide) (br_f (by decide) (br_f (by decide) (br_f (by decide) (br_f (by decide) ((br_t rfl (br_t rfl (br_f (by decide) (br_f (by decide) (br_t rfl (br_t rfl (br_t rfl (br_t rfl (h1 ⟨fun z => absurd z (by unfold zq_ua; omega), fun z => absurd z (by unfold zq_ub; omega), fun z => absurd z (by unfold zq_uc; omega), fun z => absurd z (by unfold zq_uj; omega)⟩))))))))))))))))))))
theorem zq_xfit {post : Int32 → Prop} {k : Nat} {a b c : Int32} (hk : k ≤ 14) (h1 : zq_ok k a b c → post 1) (h0 : ¬ zq_ok k a b c → post 0) : wpX_fieldsFit post (nI T, nI N, nI D, nI L, nI K, co, ca, cb, cc, cv, cr, sg, st, dp, sc, rs, rm, mr, pc, sw, rg, sv) (nI k) a b c := by
  have e : k = 0 ∨ k = 1 ∨ k = 2 ∨ k = 3 ∨ k = 4 ∨ k = 5 ∨ k = 6 ∨ k = 7 ∨ k = 8 ∨ k = 9 ∨ k = 10 ∨ k = 11 ∨ k = 12 ∨ k = 13 ∨ k = 14 := by omega
  rcases e with rfl | rfl | rfl | rfl | rfl | rfl | rfl | rfl | rfl | rfl | rfl | rfl | rfl | rfl | rfl
  · exact zq_xf0 h1 h0
  · exact zq_xf1 h1 h0
  · exact zq_xf2 h1 h0
  · exact zq_xf3 h1 h0
  · exact zq_xf4 h1 h0
  · exact zq_xf5 h1 h0
  · exact zq_xf6 h1 h0
  · exact zq_xf7 h1 h0
  · exact zq_xf8 h1 h0
  · exact zq_xf9 h1 h0
  · exact zq_xf10 h1 h0
  · exact zq_xf11 h1 h0
  · exact zq_xf12 h1 h0
  · exact zq_xf13 h1 h0
  · exact zq_xf14 h1 h0
theorem zq_yemit {post : Int32 → SY → Prop} {k : Nat} {a b c : Int32} (hk : k ≤ 14) (hL : L < 64) (h1 : zq_ok k a b c → wY_emit_178 post (nI k) a b c (nI T) (nI N) (nI D) (nI L) (nI K) pg cv cr st dp sc rs mr rd pc rg ph pv wh wv) (h0 : ¬ zq_ok k a b c → post (-1) (nI T, nI N, nI D, nI L, nI K, pg, cv, cr, st, dp, sc, rs, mr, rd, pc, rg, ph, pv, wh, wv)) : wpY_emit post (nI T, nI N, nI D, nI L, nI K, pg, cv, cr, st, dp, sc, rs, mr, rd, pc, rg, ph, pv, wh, wv) (nI k) a b c := by
  have e : k = 0 ∨ k = 1 ∨ k = 2 ∨ k = 3 ∨ k = 4 ∨ k = 5 ∨ k = 6 ∨ k = 7 ∨ k = 8 ∨ k = 9 ∨ k = 10 ∨ k = 11 ∨ k = 12 ∨ k = 13 ∨ k = 14 := by omega
  rcases e with rfl | rfl | rfl | rfl | rfl | rfl | rfl | rfl | rfl | rfl | rfl | rfl | rfl | rfl | rfl
  · exact zq_yf0 hL h1 h0
  · exact zq_yf1 hL h1 h0
  · exact zq_yf2 hL h1 h0
  · exact zq_yf3 hL h1 h0
  · exact zq_yf4 hL h1 h0
  · exact zq_yf5 hL h1 h0
  · exact zq_yf6 hL h1 h0
  · exact zq_yf7 hL h1 h0
  · exact zq_yf8 hL h1 h0
  · exact zq_yf9 hL h1 h0
  · exact zq_yf10 hL h1 h0
  · exact zq_yf11 hL h1 h0
  · exact zq_yf12 hL h1 h0
  · exact zq_yf13 hL h1 h0
  · exact zq_yf14 hL h1 h0
theorem zq_C_add (h : zq_C L co ca cb cc pg) {k : Nat} {a b c : Int32} (hk : k ≤ 14) (hok : zq_ok k a b c) : zq_C (L + 1) (upd co L (nI k)) (upd ca L a) (upd cb L b) (upd cc L c) (upd (upd (upd (upd pg (L*4) (nI k)) (L*4+1) a) (L*4+2) b) (L*4+3) c) := by
  intro i hi
  by_cases e : i = L
  · subst e
    rw [show upd co i (nI k) i = nI k from pk_us, show upd ca i a i = a from pk_us, show upd cb i b i = b from pk_us, show upd cc i c i = c from pk_us]
    refine ⟨?_, ?_, ?_, ?_, ⟨k, hk, rfl, hok⟩⟩
    · rw [pk_un (by omega), pk_un (by omega), pk_un (by omega), pk_us]
    · rw [pk_un (by omega), pk_un (by omega), pk_us]
    · rw [pk_un (by omega), pk_us]
    · rw [pk_us]
  · rw [pk_un e, pk_un e, pk_un e, pk_un e]
    obtain ⟨h0, h1, h2, h3, h4⟩ := h i (by omega)
    refine ⟨?_, ?_, ?_, ?_, h4⟩
    · rw [pk_un (by omega), pk_un (by omega), pk_un (by omega), pk_un (by omega)]
      exact h0
    · rw [pk_un (by omega), pk_un (by omega), pk_un (by omega), pk_un (by omega)]
      exact h1
    · rw [pk_un (by omega), pk_un (by omega), pk_un (by omega), pk_un (by omega)]
      exact h2
    · rw [pk_un (by omega), pk_un (by omega), pk_un (by omega), pk_un (by omega)]
      exact h3
theorem zq_jemit (hR : zq_RL T N D L K co ca cb cc st dp sc rm mr pc sw sv pg rd ph pv) (o a b c : Int32) : zq_J zq_rr (fun post => wpX_emit post (nI T, nI N, nI D, nI L, nI K, co, ca, cb, cc, cv, cr, sg, st, dp, sc, rs, rm, mr, pc, sw, rg, sv) o a b c) (fun post => wpY_emit post (nI T, nI N, nI D, nI L, nI K, pg, cv, cr, st, dp, sc, rs, mr, rd, pc, rg, ph, pv, wh, wv) o a b c) := by
  have hL64 : L ≤ 64 := hR.1.2.2.2.1
  by_cases hL : L < 64
  · rcases pk_ix o (n := 15) (by omega) with e | e | ⟨k, hk, rfl⟩
    · exact ⟨-1, (nI T, nI N, nI D, nI L, nI K, co, ca, cb, cc, cv, cr, sg, st, dp, sc, rs, rm, mr, pc, sw, rg, sv), (nI T, nI N, nI D, nI L, nI K, pg, cv, cr, st, dp, sc, rs, mr, rd, pc, rg, ph, pv, wh, wv), zq_rr_mk hR, fun post h => br_t (nI_lt (b := 64) hL (by omega)) (br_t e (br_t rfl h)), fun post h => br_f (nI_ge (b := 64) hL (by omega)) (br_t e h)⟩
    · have e0 : ¬ o < 0 := Int32.not_lt.mpr (Int32.le_trans (nI_le (a := 0) (b := 15) (by omega) (by omega)) e)
      have e14 : 14 < o := Int32.lt_of_lt_of_le (nI_lt (a := 14) (b := 15) (by omega) (by omega)) e
      exact ⟨-1, (nI T, nI N, nI D, nI L, nI K, co, ca, cb, cc, cv, cr, sg, st, dp, sc, rs, rm, mr, pc, sw, rg, sv), (nI T, nI N, nI D, nI L, nI K, pg, cv, cr, st, dp, sc, rs, mr, rd, pc, rg, ph, pv, wh, wv), zq_rr_mk hR, fun post h => br_t (nI_lt (b := 64) hL (by omega)) (br_f e0 (br_t e14 (br_t rfl h))), fun post h => br_f (nI_ge (b := 64) hL (by omega)) (br_f e0 (br_f (Int32.not_le.mpr e14) h))⟩
    · by_cases hok : zq_ok k a b c
      · have hR1 : zq_RL T N D (L+1) K (upd co L (nI k)) (upd ca L a) (upd cb L b) (upd cc L c) st dp sc rm mr pc sw sv (upd (upd (upd (upd pg (L*4) (nI k)) (L*4+1) a) (L*4+2) b) (L*4+3) c) rd ph pv := ⟨⟨hR.1.1, hR.1.2.1, hR.1.2.2.1, by omega, hR.1.2.2.2.2⟩, zq_C_add hR.2.1 (by omega) hok, hR.2.2⟩
        refine ⟨nI L, (nI T, nI N, nI D, nI (L+1), nI K, upd co L (nI k), upd ca L a, upd cb L b, upd cc L c, cv, cr, sg, st, dp, sc, rs, rm, mr, pc, sw, rg, sv), (nI T, nI N, nI D, nI (L+1), nI K, upd (upd (upd (upd pg (L*4) (nI k)) (L*4+1) a) (L*4+2) b) (L*4+3) c, cv, cr, st, dp, sc, rs, mr, rd, pc, rg, ph, pv, wh, wv), zq_rr_mk hR1, fun post h => ?_, fun post h => ?_⟩
        · refine br_t (nI_lt (b := 64) hL (by omega)) ?_
          refine zq_xfit (by omega) (fun _ => ?_) (fun z => absurd hok z)
          refine br_f (by decide) ?_
          refine zq_st L (nI k) rfl rfl ?_
          refine zq_st L a rfl rfl ?_
          refine zq_st L b rfl rfl ?_
          refine zq_st L c rfl rfl ?_
          exact nm_r (nI_1 L) h
        · refine zq_yemit (by omega) hL (fun _ => ?_) (fun z => absurd hok z)
          refine zq_st (L*4) (nI k) (zq_4 L) rfl ?_
          refine zq_st (L*4+1) a (zq_41 L) rfl ?_
          refine zq_st (L*4+2) b (zq_42 L) rfl ?_
          refine zq_st (L*4+3) c (zq_43 L) rfl ?_
          refine nm_r (nI_1 L) ?_
          rw [nI_pred]
          exact h
      · refine ⟨-1, (nI T, nI N, nI D, nI L, nI K, co, ca, cb, cc, cv, cr, sg, st, dp, sc, rs, rm, mr, pc, sw, rg, sv), (nI T, nI N, nI D, nI L, nI K, pg, cv, cr, st, dp, sc, rs, mr, rd, pc, rg, ph, pv, wh, wv), zq_rr_mk hR, fun post h => ?_, fun post h => ?_⟩
        · refine br_t (nI_lt (b := 64) hL (by omega)) ?_
          exact zq_xfit (by omega) (fun z => absurd z hok) (fun _ => br_t rfl h)
        · exact zq_yemit (by omega) hL (fun z => absurd z hok) (fun _ => h)
  · exact ⟨-1, (nI T, nI N, nI D, nI L, nI K, co, ca, cb, cc, cv, cr, sg, st, dp, sc, rs, rm, mr, pc, sw, rg, sv), (nI T, nI N, nI D, nI L, nI K, pg, cv, cr, st, dp, sc, rs, mr, rd, pc, rg, ph, pv, wh, wv), zq_rr_mk hR, fun post h => br_f (nI_nlt (b := 64) (by omega) (by omega)) h, fun post h => br_t (nI_le (a := 64) (by omega) (by omega)) h⟩
end
end
section
section
variable {T N D L K : Nat} {co ca cb cc cv cr sg st dp sc rs rm mr pc sw rg sv pg rd ph pv wh wv : Nat → Int32}
-- start
theorem zq_start_rg {f h : Nat} (v : Int32) : upd (upd (upd (upd (zq_cp 4 rg f h 4) (h*4) v) (h*4+1) 0) (h*4+2) 0) (h*4+3) 0 = upd (upd (upd (upd rg (h*4+0) v) (h*4+1) 0) (h*4+2) 0) (h*4+3) 0 := by
  funext j
  by_cases a3 : j = h*4+3
  · rw [a3, pk_us, pk_us]
  · rw [pk_un a3, pk_un a3]
    by_cases a2 : j = h*4+2
    · rw [a2, pk_us, pk_us]
    · rw [pk_un a2, pk_un a2]
      by_cases a1 : j = h*4+1
      · rw [a1, pk_us, pk_us]
      · rw [pk_un a1, pk_un a1]
        by_cases a0 : j = h*4
        · rw [a0, pk_us, Nat.add_zero, pk_us]
        · rw [pk_un a0, pk_un (show j ≠ h*4+0 by omega)]
          unfold zq_cp
          exact if_neg (by omega)
theorem zq_jstart (hR : zq_RL T N D L K co ca cb cc st dp sc rm mr pc sw sv pg rd ph pv) (p0 p1 v : Int32) : zq_J zq_rr (fun post => wpX_start post (nI T, nI N, nI D, nI L, nI K, co, ca, cb, cc, cv, cr, sg, st, dp, sc, rs, rm, mr, pc, sw, rg, sv) p0 p1 v) (fun post => wpY_start post (nI T, nI N, nI D, nI L, nI K, pg, cv, cr, st, dp, sc, rs, mr, rd, pc, rg, ph, pv, wh, wv) p0 p1 v) := by
  have hT4 : T ≤ 4 := hR.1.1
  have hL : L ≤ 64 := hR.1.2.2.2.1
  rcases pk_ix p0 (n := T) (by omega) with c | c | ⟨t, ht, rfl⟩
  · exact ⟨0, (nI T, nI N, nI D, nI L, nI K, co, ca, cb, cc, cv, cr, sg, st, dp, sc, rs, rm, mr, pc, sw, rg, sv), (nI T, nI N, nI D, nI L, nI K, pg, cv, cr, st, dp, sc, rs, mr, rd, pc, rg, ph, pv, wh, wv), zq_rr_mk hR, fun post h => (by unfold wpX_start; exact zq_xthn (Or.inl c) (br_t rfl h)), fun post h => (by unfold wpY_start; exact zq_ythn (Or.inl c) (br_t rfl h))⟩
  · exact ⟨0, (nI T, nI N, nI D, nI L, nI K, co, ca, cb, cc, cv, cr, sg, st, dp, sc, rs, rm, mr, pc, sw, rg, sv), (nI T, nI N, nI D, nI L, nI K, pg, cv, cr, st, dp, sc, rs, mr, rd, pc, rg, ph, pv, wh, wv), zq_rr_mk hR, fun post h => (by unfold wpX_start; exact zq_xthn (Or.inr c) (br_t rfl h)), fun post h => (by unfold wpY_start; exact zq_ythn (Or.inr c) (br_t rfl h))⟩
  · rcases pk_ix p1 (n := L) (by omega) with c | c | ⟨q, hq, rfl⟩
    · exact ⟨0, (nI T, nI N, nI D, nI L, nI K, co, ca, cb, cc, cv, cr, sg, st, dp, sc, rs, rm, mr, pc, sw, rg, sv), (nI T, nI N, nI D, nI L, nI K, pg, cv, cr, st, dp, sc, rs, mr, rd, pc, rg, ph, pv, wh, wv), zq_rr_mk hR, fun post h => (by unfold wpX_start; exact zq_xth hT4 ht (br_f (by decide) (br_t c h))), fun post h => (by unfold wpY_start; exact zq_yth hT4 ht (br_f (by decide) (br_t c h)))⟩
    · have n0 : ¬ p1 < 0 := Int32.not_lt.mpr (Int32.le_trans (nI_pos' (n := L) (by omega)) c)
      exact ⟨0, (nI T, nI N, nI D, nI L, nI K, co, ca, cb, cc, cv, cr, sg, st, dp, sc, rs, rm, mr, pc, sw, rg, sv), (nI T, nI N, nI D, nI L, nI K, pg, cv, cr, st, dp, sc, rs, mr, rd, pc, rg, ph, pv, wh, wv), zq_rr_mk hR, fun post h => (by unfold wpX_start; exact zq_xth hT4 ht (br_f (by decide) (br_f n0 (br_f (Int32.not_lt.mpr c) h)))), fun post h => (by unfold wpY_start; exact zq_yth hT4 ht (br_f (by decide) (br_f n0 (br_f (Int32.not_lt.mpr c) h))))⟩
    · have ht4 : t < 4 := by omega
      obtain ⟨d, hdD, hd3, hd⟩ := zq_dep hR ht4
      have hP1 : zq_P (upd pc (t*5+1) (nI q)) := zq_P_u hR.2.2.2.2.1 _ ⟨q, by omega, rfl⟩
      have hR1 := zq_RL_clean hR ht (t*5+1+d) 1 hP1
      refine ⟨1, (nI T, nI N, nI D, nI L, nI K, co, ca, cb, cc, cv, cr, sg, upd st t 1, upd dp t 0, upd sc t 0, upd rs t 0, upd rm t 0, upd mr t 0, upd pc (t*5+1) (nI q), upd sw (t*5+1) 0, upd (upd (upd (upd rg ((t*5+1)*4+0) v) ((t*5+1)*4+1) 0) ((t*5+1)*4+2) 0) ((t*5+1)*4+3) 0, sv), (nI T, nI N, nI D, nI L, nI K, pg, cv, cr, upd st t 1, upd dp t 0, upd sc t 0, upd rs t 0, upd mr t 0, zq_fl rd (t*16) 16, upd pc (t*5+1) (nI q), upd (upd (upd (upd rg ((t*5+1)*4+0) v) ((t*5+1)*4+1) 0) ((t*5+1)*4+2) 0) ((t*5+1)*4+3) 0, zq_fl (zq_cp 16 ph (t*5+1+d) (t*5+1) 16) ((t*5+1)*16) 16, zq_cp 16 pv (t*5+1+d) (t*5+1) 16, wh, wv), zq_rr_mk hR1, fun post h => ?_, fun post h => ?_⟩
      · unfold wpX_start
        refine zq_xth hT4 ht ?_
        refine br_f (by decide) ?_
        refine br_f (nI_pos (by omega)) ?_
        refine br_t (nI_lt hq (by omega)) ?_
        refine zq_xdrop ht4 ?_
        refine nm_r (zq_51 t) ?_
        refine zq_st t 1 rfl rfl ?_
        refine zq_st t 0 rfl rfl ?_
        refine zq_st (t*5+1) (nI q) rfl rfl ?_
        refine zq_xset (s := t*5+1) (r := 0) (by omega) (by omega) (by decide) ?_
        refine zq_xset (s := t*5+1) (r := 1) (by omega) (by omega) (by decide) ?_
        refine zq_xset (s := t*5+1) (r := 2) (by omega) (by omega) (by decide) ?_
        exact zq_xset (s := t*5+1) (r := 3) (by omega) (by omega) (by decide) h
      · rw [← zq_start_rg (f := t*5+1+d)] at h
        unfold wpY_start
        refine zq_yth hT4 ht ?_
        refine br_f (by decide) ?_
        refine br_f (nI_pos (by omega)) ?_
        refine br_t (nI_lt hq (by omega)) ?_
        refine zq_in t rfl ?_
        refine zq_yclean (f := t*5+1+d) (zq_topY (zq_rd t rfl hd)) ht4 (by omega) (zq_S01 hR.2.2.2.2.2.1 (by omega)) ?_
        refine nm_r (zq_51 t) ?_
        refine zq_st t 1 rfl rfl ?_
        refine zq_st (t*5+1) (nI q) rfl rfl ?_
        rw [zq_upd2]
        refine zq_st ((t*5+1)*4) v (zq_4 (t*5+1)) rfl ?_
        refine ⟨4, ?_⟩
        refine br_f (by decide) ?_
        refine zq_st ((t*5+1)*4+1) 0 (zq_41 (t*5+1)) rfl ?_
        refine nm_r (e' := 2) (by decide) ?_
        refine br_f (by decide) ?_
        refine zq_st ((t*5+1)*4+2) 0 (zq_42 (t*5+1)) rfl ?_
        refine nm_r (e' := 3) (by decide) ?_
        refine br_f (by decide) ?_
        refine zq_st ((t*5+1)*4+3) 0 (zq_43 (t*5+1)) rfl ?_
        refine nm_r (e' := 4) (by decide) ?_
        refine br_t (by decide) ?_
        exact zq_st t 0 rfl rfl h
-- poke
theorem zq_jpoke (hR : zq_RL T N D L K co ca cb cc st dp sc rm mr pc sw sv pg rd ph pv) (p v : Int32) : zq_J zq_rr (fun post => wpX_poke post (nI T, nI N, nI D, nI L, nI K, co, ca, cb, cc, cv, cr, sg, st, dp, sc, rs, rm, mr, pc, sw, rg, sv) p v) (fun post => wpY_poke post (nI T, nI N, nI D, nI L, nI K, pg, cv, cr, st, dp, sc, rs, mr, rd, pc, rg, ph, pv, wh, wv) p v) := by
  have hN : N ≤ 16 := hR.1.2.1
  rcases pk_ix p (n := N) (by omega) with c | c | ⟨x, hx, rfl⟩
  · exact ⟨0, (nI T, nI N, nI D, nI L, nI K, co, ca, cb, cc, cv, cr, sg, st, dp, sc, rs, rm, mr, pc, sw, rg, sv), (nI T, nI N, nI D, nI L, nI K, pg, cv, cr, st, dp, sc, rs, mr, rd, pc, rg, ph, pv, wh, wv), zq_rr_mk hR, fun post h => (by unfold wpX_poke; exact zq_xcen (Or.inl c) (br_t rfl h)), fun post h => (by unfold wpY_poke; exact zq_ycen (Or.inl c) (br_t rfl h))⟩
  · exact ⟨0, (nI T, nI N, nI D, nI L, nI K, co, ca, cb, cc, cv, cr, sg, st, dp, sc, rs, rm, mr, pc, sw, rg, sv), (nI T, nI N, nI D, nI L, nI K, pg, cv, cr, st, dp, sc, rs, mr, rd, pc, rg, ph, pv, wh, wv), zq_rr_mk hR, fun post h => (by unfold wpX_poke; exact zq_xcen (Or.inr c) (br_t rfl h)), fun post h => (by unfold wpY_poke; exact zq_ycen (Or.inr c) (br_t rfl h))⟩
  · obtain ⟨r, K', cv', cr', st', dp', sc', rs', rm', mr', pc', sw', rg', rd', ph', pv', wh', hR', hr, hF, hX, hY⟩ := zq_pub1 (cv := cv) (cr := cr) (sg := sg) (rs := rs) (rg := rg) (wh := wh) (wv := wv) hR (-1) v hx
    refine ⟨r, (nI T, nI N, nI D, nI L, nI K', co, ca, cb, cc, cv', cr', upd sg x v, st', dp', sc', rs', rm', mr', pc', sw', rg', sv), (nI T, nI N, nI D, nI L, nI K', pg, cv', cr', st', dp', sc', rs', mr', rd', pc', rg', ph', pv', wh', upd wv x v), zq_rr_mk hR', fun post h => ?_, fun post h => ?_⟩
    · unfold wpX_poke
      refine zq_xce hN hx ?_
      refine br_f (by decide) ?_
      refine zq_st x v rfl rfl ?_
      exact hX _ ⟨zq_nn hr, h⟩
    · unfold wpY_poke
      refine zq_yce hN hx ?_
      refine br_f (by decide) ?_
      exact hY _ ⟨zq_nn hr, h⟩
-- abort
theorem zq_jabort (hR : zq_RL T N D L K co ca cb cc st dp sc rm mr pc sw sv pg rd ph pv) (p : Int32) : zq_J zq_rr (fun post => wpX_abort post (nI T, nI N, nI D, nI L, nI K, co, ca, cb, cc, cv, cr, sg, st, dp, sc, rs, rm, mr, pc, sw, rg, sv) p) (fun post => wpY_abort post (nI T, nI N, nI D, nI L, nI K, pg, cv, cr, st, dp, sc, rs, mr, rd, pc, rg, ph, pv, wh, wv) p) := by
  have hT4 : T ≤ 4 := hR.1.1
  rcases pk_ix p (n := T) (by omega) with c | c | ⟨t, ht, rfl⟩
  · exact ⟨0, (nI T, nI N, nI D, nI L, nI K, co, ca, cb, cc, cv, cr, sg, st, dp, sc, rs, rm, mr, pc, sw, rg, sv), (nI T, nI N, nI D, nI L, nI K, pg, cv, cr, st, dp, sc, rs, mr, rd, pc, rg, ph, pv, wh, wv), zq_rr_mk hR, fun post h => (by unfold wpX_abort; exact zq_xthn (Or.inl c) (br_t rfl h)), fun post h => (by unfold wpY_abort; exact zq_ythn (Or.inl c) (br_t rfl h))⟩
  · exact ⟨0, (nI T, nI N, nI D, nI L, nI K, co, ca, cb, cc, cv, cr, sg, st, dp, sc, rs, rm, mr, pc, sw, rg, sv), (nI T, nI N, nI D, nI L, nI K, pg, cv, cr, st, dp, sc, rs, mr, rd, pc, rg, ph, pv, wh, wv), zq_rr_mk hR, fun post h => (by unfold wpX_abort; exact zq_xthn (Or.inr c) (br_t rfl h)), fun post h => (by unfold wpY_abort; exact zq_ythn (Or.inr c) (br_t rfl h))⟩
  · have ht4 : t < 4 := by omega
    by_cases c : st t = 2 ∨ st t = 3
    · obtain ⟨u, v, hre, hX, hY⟩ := zq_jrestart (cv := cv) (cr := cr) (sg := sg) (rs := rs) (rg := rg) (wh := wh) (wv := wv) hR ht
      refine ⟨1, u, v, hre, fun post h => ?_, fun post h => ?_⟩
      · unfold wpX_abort
        refine zq_xth hT4 ht ?_
        refine br_f (by decide) ?_
        refine zq_xib ht4 (fun _ => ?_) (fun n2 n3 => absurd c (fun z => z.elim n2 n3))
        refine br_f (by decide) ?_
        exact hX _ (zq_xe h)
      · unfold wpY_abort
        refine zq_yth hT4 ht ?_
        refine br_f (by decide) ?_
        refine zq_yib ht4 (fun _ => ?_) (fun n2 n3 => absurd c (fun z => z.elim n2 n3))
        refine br_f (by decide) ?_
        exact hY _ (zq_ye h)
    · refine ⟨0, (nI T, nI N, nI D, nI L, nI K, co, ca, cb, cc, cv, cr, sg, st, dp, sc, rs, rm, mr, pc, sw, rg, sv), (nI T, nI N, nI D, nI L, nI K, pg, cv, cr, st, dp, sc, rs, mr, rd, pc, rg, ph, pv, wh, wv), zq_rr_mk hR, fun post h => ?_, fun post h => ?_⟩
      · unfold wpX_abort
        refine zq_xth hT4 ht ?_
        refine br_f (by decide) ?_
        exact zq_xib ht4 (fun z => absurd z c) (fun _ _ => br_t rfl h)
      · unfold wpY_abort
        refine zq_yth hT4 ht ?_
        refine br_f (by decide) ?_
        exact zq_yib ht4 (fun z => absurd z c) (fun _ _ => br_t rfl h)
end
-- readers: one answer for both
abbrev zq_G (A B : (Int32 → Prop) → Prop) : Prop := ∃ r : Int32, (∀ post : Int32 → Prop, post r → A post) ∧ (∀ post : Int32 → Prop, post r → B post)
section
variable {T N D L K : Nat} {co ca cb cc cv cr sg st dp sc rs rm mr pc sw rg sv pg rd ph pv wh wv : Nat → Int32}
theorem zq_gcode (hR : zq_RL T N D L K co ca cb cc st dp sc rm mr pc sw sv pg rd ph pv) (p f : Int32) : zq_G (fun post => wpX_code post (nI T, nI N, nI D, nI L, nI K, co, ca, cb, cc, cv, cr, sg, st, dp, sc, rs, rm, mr, pc, sw, rg, sv) p f) (fun post => wpY_code post (nI T, nI N, nI D, nI L, nI K, pg, cv, cr, st, dp, sc, rs, mr, rd, pc, rg, ph, pv, wh, wv) p f) := by
  have hL : L ≤ 64 := hR.1.2.2.2.1
  rcases pk_ix p (n := L) (by omega) with c | c | ⟨i, hi, rfl⟩
  · exact ⟨-1, fun post h => br_t c h, fun post h => br_t c h⟩
  · have n0 : ¬ p < 0 := Int32.not_lt.mpr (Int32.le_trans (nI_pos' (n := L) (by omega)) c)
    exact ⟨-1, fun post h => br_f n0 (br_f (Int32.not_lt.mpr c) h), fun post h => br_f n0 (br_t c h)⟩
  · obtain ⟨g0, g1, g2, g3, _⟩ := hR.2.1 i hi
    have hp : ¬ nI i < 0 := nI_pos (by omega)
    have hl : nI i < nI L := nI_lt hi (by omega)
    have hl' : ¬ nI L ≤ nI i := nI_ge hi (by omega)
    rcases pk_ix f (n := 4) (by omega) with c | c | ⟨j, hj, rfl⟩
    · exact ⟨-1, fun post h => br_f hp (br_t hl (br_t c h)), fun post h => br_f hp (br_f hl' (br_t c h))⟩
    · have n0 : ¬ f < 0 := Int32.not_lt.mpr (Int32.le_trans (nI_pos' (n := 4) (by omega)) c)
      have n3 : 3 < f := Int32.lt_of_lt_of_le (nI_lt (a := 3) (b := 4) (by omega) (by omega)) c
      exact ⟨-1, fun post h => br_f hp (br_t hl (br_f n0 (br_t n3 h))), fun post h => br_f hp (br_f hl' (br_f n0 (br_f (Int32.not_le.mpr n3) h)))⟩
    · have e : j = 0 ∨ j = 1 ∨ j = 2 ∨ j = 3 := by omega
      rcases e with rfl | rfl | rfl | rfl
      · refine ⟨co i, fun post h => br_f hp (br_t hl (br_f (by decide) (br_f (by decide) (br_t rfl (zq_in i rfl ?_))))), fun post h => br_f hp (br_f hl' (br_f (by decide) (br_t (by decide) (zq_in (i*4+0) (zq_4a i 0) ?_))))⟩
        · rw [zq_rd (a := co) i rfl rfl]; exact h
        · rw [zq_rd (a := pg) (i*4+0) (zq_4a i 0) g0]; exact h
      · refine ⟨ca i, fun post h => br_f hp (br_t hl (br_f (by decide) (br_f (by decide) (br_f (by decide) (br_t rfl (zq_in i rfl ?_)))))), fun post h => br_f hp (br_f hl' (br_f (by decide) (br_t (by decide) (zq_in (i*4+1) (zq_4a i 1) ?_))))⟩
        · rw [zq_rd (a := ca) i rfl rfl]; exact h
        · rw [zq_rd (a := pg) (i*4+1) (zq_4a i 1) g1]; exact h
      · refine ⟨cb i, fun post h => br_f hp (br_t hl (br_f (by decide) (br_f (by decide) (br_f (by decide) (br_f (by decide) (br_t rfl (zq_in i rfl ?_))))))), fun post h => br_f hp (br_f hl' (br_f (by decide) (br_t (by decide) (zq_in (i*4+2) (zq_4a i 2) ?_))))⟩
        · rw [zq_rd (a := cb) i rfl rfl]; exact h
        · rw [zq_rd (a := pg) (i*4+2) (zq_4a i 2) g2]; exact h
      · refine ⟨cc i, fun post h => br_f hp (br_t hl (br_f (by decide) (br_f (by decide) (br_f (by decide) (br_f (by decide) (br_f (by decide) (br_t rfl (zq_in i rfl ?_)))))))), fun post h => br_f hp (br_f hl' (br_f (by decide) (br_t (by decide) (zq_in (i*4+3) (zq_4a i 3) ?_))))⟩
        · rw [zq_rd (a := cc) i rfl rfl]; exact h
        · rw [zq_rd (a := pg) (i*4+3) (zq_4a i 3) g3]; exact h
theorem zq_gcell (hR : zq_RL T N D L K co ca cb cc st dp sc rm mr pc sw sv pg rd ph pv) (p : Int32) : zq_G (fun post => wpX_cell post (nI T, nI N, nI D, nI L, nI K, co, ca, cb, cc, cv, cr, sg, st, dp, sc, rs, rm, mr, pc, sw, rg, sv) p) (fun post => wpY_cell post (nI T, nI N, nI D, nI L, nI K, pg, cv, cr, st, dp, sc, rs, mr, rd, pc, rg, ph, pv, wh, wv) p) := by
  have hN : N ≤ 16 := hR.1.2.1
  rcases pk_ix p (n := N) (by omega) with c | c | ⟨x, hx, rfl⟩
  · exact ⟨0, fun post h => (by unfold wpX_cell; exact zq_xcen (Or.inl c) (br_t rfl h)), fun post h => (by unfold wpY_cell; exact zq_ycen (Or.inl c) (br_t rfl h))⟩
  · exact ⟨0, fun post h => (by unfold wpX_cell; exact zq_xcen (Or.inr c) (br_t rfl h)), fun post h => (by unfold wpY_cell; exact zq_ycen (Or.inr c) (br_t rfl h))⟩
  · exact ⟨cv (nI x).toNatClampNeg, fun post h => (by unfold wpX_cell; exact zq_xce hN hx (br_f (by decide) (zq_in x rfl h))), fun post h => (by unfold wpY_cell; exact zq_yce hN hx (br_f (by decide) (zq_in x rfl h)))⟩
theorem zq_gversion (hR : zq_RL T N D L K co ca cb cc st dp sc rm mr pc sw sv pg rd ph pv) (p : Int32) : zq_G (fun post => wpX_version post (nI T, nI N, nI D, nI L, nI K, co, ca, cb, cc, cv, cr, sg, st, dp, sc, rs, rm, mr, pc, sw, rg, sv) p) (fun post => wpY_version post (nI T, nI N, nI D, nI L, nI K, pg, cv, cr, st, dp, sc, rs, mr, rd, pc, rg, ph, pv, wh, wv) p) := by
  have hN : N ≤ 16 := hR.1.2.1
  rcases pk_ix p (n := N) (by omega) with c | c | ⟨x, hx, rfl⟩
  · exact ⟨-1, fun post h => (by unfold wpX_version; exact zq_xcen (Or.inl c) (br_t rfl h)), fun post h => (by unfold wpY_version; exact zq_ycen (Or.inl c) (br_t rfl h))⟩
  · exact ⟨-1, fun post h => (by unfold wpX_version; exact zq_xcen (Or.inr c) (br_t rfl h)), fun post h => (by unfold wpY_version; exact zq_ycen (Or.inr c) (br_t rfl h))⟩
  · exact ⟨cr (nI x).toNatClampNeg, fun post h => (by unfold wpX_version; exact zq_xce hN hx (br_f (by decide) (zq_in x rfl h))), fun post h => (by unfold wpY_version; exact zq_yce hN hx (br_f (by decide) (zq_in x rfl h)))⟩
theorem zq_gstatus (hR : zq_RL T N D L K co ca cb cc st dp sc rm mr pc sw sv pg rd ph pv) (p : Int32) : zq_G (fun post => wpX_status post (nI T, nI N, nI D, nI L, nI K, co, ca, cb, cc, cv, cr, sg, st, dp, sc, rs, rm, mr, pc, sw, rg, sv) p) (fun post => wpY_status post (nI T, nI N, nI D, nI L, nI K, pg, cv, cr, st, dp, sc, rs, mr, rd, pc, rg, ph, pv, wh, wv) p) := by
  have hT4 : T ≤ 4 := hR.1.1
  rcases pk_ix p (n := T) (by omega) with c | c | ⟨t, ht, rfl⟩
  · exact ⟨-1, fun post h => (by unfold wpX_status; exact zq_xthn (Or.inl c) (br_t rfl h)), fun post h => (by unfold wpY_status; exact zq_ythn (Or.inl c) (br_t rfl h))⟩
  · exact ⟨-1, fun post h => (by unfold wpX_status; exact zq_xthn (Or.inr c) (br_t rfl h)), fun post h => (by unfold wpY_status; exact zq_ythn (Or.inr c) (br_t rfl h))⟩
  · exact ⟨st (nI t).toNatClampNeg, fun post h => (by unfold wpX_status; exact zq_xth hT4 ht (br_f (by decide) (zq_in t rfl h))), fun post h => (by unfold wpY_status; exact zq_yth hT4 ht (br_f (by decide) (zq_in t rfl h)))⟩
theorem zq_gdepth (hR : zq_RL T N D L K co ca cb cc st dp sc rm mr pc sw sv pg rd ph pv) (p : Int32) : zq_G (fun post => wpX_depth post (nI T, nI N, nI D, nI L, nI K, co, ca, cb, cc, cv, cr, sg, st, dp, sc, rs, rm, mr, pc, sw, rg, sv) p) (fun post => wpY_depth post (nI T, nI N, nI D, nI L, nI K, pg, cv, cr, st, dp, sc, rs, mr, rd, pc, rg, ph, pv, wh, wv) p) := by
  have hT4 : T ≤ 4 := hR.1.1
  rcases pk_ix p (n := T) (by omega) with c | c | ⟨t, ht, rfl⟩
  · exact ⟨-1, fun post h => (by unfold wpX_depth; exact zq_xthn (Or.inl c) (br_t rfl h)), fun post h => (by unfold wpY_depth; exact zq_ythn (Or.inl c) (br_t rfl h))⟩
  · exact ⟨-1, fun post h => (by unfold wpX_depth; exact zq_xthn (Or.inr c) (br_t rfl h)), fun post h => (by unfold wpY_depth; exact zq_ythn (Or.inr c) (br_t rfl h))⟩
  · exact ⟨dp (nI t).toNatClampNeg, fun post h => (by unfold wpX_depth; exact zq_xth hT4 ht (br_f (by decide) (zq_in t rfl h))), fun post h => (by unfold wpY_depth; exact zq_yth hT4 ht (br_f (by decide) (zq_in t rfl h)))⟩
theorem zq_gblockSteps (hR : zq_RL T N D L K co ca cb cc st dp sc rm mr pc sw sv pg rd ph pv) (p : Int32) : zq_G (fun post => wpX_blockSteps post (nI T, nI N, nI D, nI L, nI K, co, ca, cb, cc, cv, cr, sg, st, dp, sc, rs, rm, mr, pc, sw, rg, sv) p) (fun post => wpY_blockSteps post (nI T, nI N, nI D, nI L, nI K, pg, cv, cr, st, dp, sc, rs, mr, rd, pc, rg, ph, pv, wh, wv) p) := by
  have hT4 : T ≤ 4 := hR.1.1
  rcases pk_ix p (n := T) (by omega) with c | c | ⟨t, ht, rfl⟩
  · exact ⟨-1, fun post h => (by unfold wpX_blockSteps; exact zq_xthn (Or.inl c) (br_t rfl h)), fun post h => (by unfold wpY_blockSteps; exact zq_ythn (Or.inl c) (br_t rfl h))⟩
  · exact ⟨-1, fun post h => (by unfold wpX_blockSteps; exact zq_xthn (Or.inr c) (br_t rfl h)), fun post h => (by unfold wpY_blockSteps; exact zq_ythn (Or.inr c) (br_t rfl h))⟩
  · exact ⟨sc (nI t).toNatClampNeg, fun post h => (by unfold wpX_blockSteps; exact zq_xth hT4 ht (br_f (by decide) (zq_in t rfl h))), fun post h => (by unfold wpY_blockSteps; exact zq_yth hT4 ht (br_f (by decide) (zq_in t rfl h)))⟩
theorem zq_grestarts (hR : zq_RL T N D L K co ca cb cc st dp sc rm mr pc sw sv pg rd ph pv) (p : Int32) : zq_G (fun post => wpX_restarts post (nI T, nI N, nI D, nI L, nI K, co, ca, cb, cc, cv, cr, sg, st, dp, sc, rs, rm, mr, pc, sw, rg, sv) p) (fun post => wpY_restarts post (nI T, nI N, nI D, nI L, nI K, pg, cv, cr, st, dp, sc, rs, mr, rd, pc, rg, ph, pv, wh, wv) p) := by
  have hT4 : T ≤ 4 := hR.1.1
  rcases pk_ix p (n := T) (by omega) with c | c | ⟨t, ht, rfl⟩
  · exact ⟨-1, fun post h => (by unfold wpX_restarts; exact zq_xthn (Or.inl c) (br_t rfl h)), fun post h => (by unfold wpY_restarts; exact zq_ythn (Or.inl c) (br_t rfl h))⟩
  · exact ⟨-1, fun post h => (by unfold wpX_restarts; exact zq_xthn (Or.inr c) (br_t rfl h)), fun post h => (by unfold wpY_restarts; exact zq_ythn (Or.inr c) (br_t rfl h))⟩
  · exact ⟨rs (nI t).toNatClampNeg, fun post h => (by unfold wpX_restarts; exact zq_xth hT4 ht (br_f (by decide) (zq_in t rfl h))), fun post h => (by unfold wpY_restarts; exact zq_yth hT4 ht (br_f (by decide) (zq_in t rfl h)))⟩
theorem zq_gstale (hR : zq_RL T N D L K co ca cb cc st dp sc rm mr pc sw sv pg rd ph pv) (p : Int32) : zq_G (fun post => wpX_stale post (nI T, nI N, nI D, nI L, nI K, co, ca, cb, cc, cv, cr, sg, st, dp, sc, rs, rm, mr, pc, sw, rg, sv) p) (fun post => wpY_stale post (nI T, nI N, nI D, nI L, nI K, pg, cv, cr, st, dp, sc, rs, mr, rd, pc, rg, ph, pv, wh, wv) p) := by
  have hT4 : T ≤ 4 := hR.1.1
  rcases pk_ix p (n := T) (by omega) with c | c | ⟨t, ht, rfl⟩
  · exact ⟨0, fun post h => (by unfold wpX_stale; exact zq_xthn (Or.inl c) (br_t rfl h)), fun post h => (by unfold wpY_stale; exact zq_ythn (Or.inl c) (br_t rfl h))⟩
  · exact ⟨0, fun post h => (by unfold wpX_stale; exact zq_xthn (Or.inr c) (br_t rfl h)), fun post h => (by unfold wpY_stale; exact zq_ythn (Or.inr c) (br_t rfl h))⟩
  · have ht4 : t < 4 := by omega
    have tt := hR.2.2.1 t ht4
    have em : mr (nI t).toNatClampNeg = mr t := zq_rd t rfl rfl
    have es : st (nI t).toNatClampNeg = st t := zq_rd t rfl rfl
    refine ⟨mr t, fun post h => ?_, fun post h => ?_⟩
    · unfold wpX_stale
      refine zq_xth hT4 ht ?_
      refine br_f (by decide) ?_
      refine zq_in t rfl ?_
      rw [em]
      exact ⟨zq_nn tt.2.2.2.1, h⟩
    · unfold wpY_stale
      refine zq_yth hT4 ht ?_
      refine br_f (by decide) ?_
      refine zq_in t rfl ?_
      by_cases c : st t = 2
      · refine br_t (es.trans c) ?_
        refine zq_in t rfl ?_
        rcases tt.2.2.2.1 with z | z
        · rw [z] at h
          exact br_t (em.trans z) h
        · rw [z] at h
          exact br_f (by rw [em, z]; decide) h
      · rw [tt.2.2.2.2.1 c] at h
        exact br_f (fun z => c (es.symm.trans z)) h
theorem zq_ghasRead (hR : zq_RL T N D L K co ca cb cc st dp sc rm mr pc sw sv pg rd ph pv) (p y : Int32) : zq_G (fun post => wpX_hasRead post (nI T, nI N, nI D, nI L, nI K, co, ca, cb, cc, cv, cr, sg, st, dp, sc, rs, rm, mr, pc, sw, rg, sv) p y) (fun post => wpY_hasRead post (nI T, nI N, nI D, nI L, nI K, pg, cv, cr, st, dp, sc, rs, mr, rd, pc, rg, ph, pv, wh, wv) p y) := by
  have hT4 : T ≤ 4 := hR.1.1
  have hN : N ≤ 16 := hR.1.2.1
  rcases pk_ix p (n := T) (by omega) with c | c | ⟨t, ht, rfl⟩
  · exact ⟨0, fun post h => (by unfold wpX_hasRead; exact zq_xthn (Or.inl c) (br_t rfl h)), fun post h => (by unfold wpY_hasRead; exact zq_ythn (Or.inl c) (br_t rfl h))⟩
  · exact ⟨0, fun post h => (by unfold wpX_hasRead; exact zq_xthn (Or.inr c) (br_t rfl h)), fun post h => (by unfold wpY_hasRead; exact zq_ythn (Or.inr c) (br_t rfl h))⟩
  · have ht4 : t < 4 := by omega
    have tt := hR.2.2.1 t ht4
    rcases pk_ix y (n := N) (by omega) with c | c | ⟨x, hx, rfl⟩
    · exact ⟨0, fun post h => (by unfold wpX_hasRead; exact zq_xth hT4 ht (br_f (by decide) (zq_xcen (Or.inl c) (br_t rfl h)))), fun post h => (by unfold wpY_hasRead; exact zq_yth hT4 ht (br_f (by decide) (zq_ycen (Or.inl c) (br_t rfl h))))⟩
    · exact ⟨0, fun post h => (by unfold wpX_hasRead; exact zq_xth hT4 ht (br_f (by decide) (zq_xcen (Or.inr c) (br_t rfl h)))), fun post h => (by unfold wpY_hasRead; exact zq_yth hT4 ht (br_f (by decide) (zq_ycen (Or.inr c) (br_t rfl h))))⟩
    · have er : rd (nI t * 16 + nI x).toNatClampNeg = zq_bz (bt (rm t) x) := zq_rd (t*16+x) (zq_16a t x) (hR.2.2.2.1 t ht4 x (by omega))
      refine ⟨zq_bz (bt (rm t) x), fun post h => ?_, fun post h => ?_⟩
      · unfold wpX_hasRead
        refine zq_xth hT4 ht ?_
        refine br_f (by decide) ?_
        refine zq_xce hN hx ?_
        refine br_f (by decide) ?_
        refine zq_in t rfl ?_
        rw [zq_rd (a := rm) t rfl rfl]
        exact zq_xhb (by omega) ⟨zq_nn (zq_bz01 _), h⟩
      · unfold wpY_hasRead
        refine zq_yth hT4 ht ?_
        refine br_f (by decide) ?_
        refine zq_yce hN hx ?_
        refine br_f (by decide) ?_
        refine zq_yib ht4 (fun _ => ?_) (fun n2 n3 => ?_)
        · refine br_f (by decide) ?_
          refine zq_in (t*16+x) (zq_16a t x) ?_
          cases e : bt (rm t) x
          · rw [e] at h er
            exact br_t er h
          · rw [e] at h er
            exact br_f (by rw [er]; decide) h
        · rw [(tt.2.2.2.2.2 n2 n3).2, b_0] at h
          exact br_t rfl h
-- slots by level
theorem zq_lev {p : Int32} (h : ¬ p < -1) : p = -1 ∨ ¬ p < 0 := by
  by_cases c : p < 0
  · left
    rw [Int32.lt_iff_toInt_lt] at h c
    apply Int32.toInt_inj.mp
    have e1 : (-1 : Int32).toInt = -1 := by decide
    have e0 : (0 : Int32).toInt = 0 := by decide
    omega
  · exact Or.inr c
theorem zq_jslot (hR : zq_RL T N D L K co ca cb cc st dp sc rm mr pc sw sv pg rd ph pv) (p l : Int32) : ∃ r : Int32, (r = -1 ∨ ∃ s, s < 20 ∧ r = nI s) ∧ (∀ post : Int32 → Prop, post r → wpX_slotAt post (nI T, nI N, nI D, nI L, nI K, co, ca, cb, cc, cv, cr, sg, st, dp, sc, rs, rm, mr, pc, sw, rg, sv) p l) ∧ (∀ post : Int32 → Prop, post r → wpY_slot post (nI T, nI N, nI D, nI L, nI K, pg, cv, cr, st, dp, sc, rs, mr, rd, pc, rg, ph, pv, wh, wv) p l) := by
  have hT4 : T ≤ 4 := hR.1.1
  rcases pk_ix p (n := T) (by omega) with c | c | ⟨t, ht, rfl⟩
  · exact ⟨-1, Or.inl rfl, fun post h => (by unfold wpX_slotAt; exact zq_xthn (Or.inl c) (br_t rfl h)), fun post h => (by unfold wpY_slot; exact zq_ythn (Or.inl c) (br_t rfl h))⟩
  · exact ⟨-1, Or.inl rfl, fun post h => (by unfold wpX_slotAt; exact zq_xthn (Or.inr c) (br_t rfl h)), fun post h => (by unfold wpY_slot; exact zq_ythn (Or.inr c) (br_t rfl h))⟩
  · have ht4 : t < 4 := by omega
    obtain ⟨d, hdD, hd3, hd⟩ := zq_dep hR ht4
    have esd : dp (nI t).toNatClampNeg = nI d := zq_rd t rfl hd
    -- with the lowest level given
    have main : ∀ z : Int32, (z = 0 ∨ z = -1) → ∃ r : Int32, (r = -1 ∨ ∃ s, s < 20 ∧ r = nI s) ∧ (∀ post : Int32 → Prop, post r → wX_slotAt_22 post (nI t) l z (nI T) (nI N) (nI D) (nI L) (nI K) co ca cb cc cv cr sg st dp sc rs rm mr pc sw rg sv) ∧ (∀ post : Int32 → Prop, post r → wY_slot_23 post (nI t) l z (nI T) (nI N) (nI D) (nI L) (nI K) pg cv cr st dp sc rs mr rd pc rg ph pv wh wv) := by
      intro z hz
      by_cases c1 : l < z
      · exact ⟨-1, Or.inl rfl, fun post h => br_t c1 h, fun post h => br_t c1 h⟩
      · by_cases c2 : l ≤ nI d
        · have hl : l = -1 ∨ ¬ l < 0 := by
            rcases hz with rfl | rfl
            · exact Or.inr c1
            · exact zq_lev c1
          have key : ∃ s, s < 20 ∧ nI t * 5 + 1 + l = nI s ∧ nI t * 5 + l + 1 = nI s := by
            rcases hl with rfl | hl
            · refine ⟨t*5, by omega, ?_, ?_⟩
              · rw [zq_51, ← nI_1, Int32.add_assoc, show (1 : Int32) + (-1) = 0 from by decide, Int32.add_zero]
              · rw [zq_5, Int32.add_assoc, show (-1 : Int32) + 1 = 0 from by decide, Int32.add_zero]
            · obtain ⟨j, hj, rfl⟩ := nI_of hl
              have hjd : j ≤ d := (nI_leI hj (by omega)).mp c2
              exact ⟨t*5+1+j, by omega, zq_top rfl, zq_topY rfl⟩
          obtain ⟨s, hs, e1, e2⟩ := key
          refine ⟨nI s, Or.inr ⟨s, hs, rfl⟩, fun post h => ?_, fun post h => ?_⟩
          · refine br_f c1 ?_
            refine zq_in t rfl ?_
            refine br_t (by rw [esd]; exact c2) ?_
            rw [e1]
            exact h
          · refine br_f c1 ?_
            refine zq_in t rfl ?_
            refine br_t (by rw [esd]; exact c2) ?_
            rw [e2]
            exact h
        · refine ⟨-1, Or.inl rfl, fun post h => ?_, fun post h => ?_⟩
          · refine br_f c1 ?_
            refine zq_in t rfl ?_
            exact br_f (by rw [esd]; exact c2) h
          · refine br_f c1 ?_
            refine zq_in t rfl ?_
            exact br_f (by rw [esd]; exact c2) h
    by_cases c : st t = 2 ∨ st t = 3
    · obtain ⟨r, hr, hX, hY⟩ := main (-1) (Or.inr rfl)
      refine ⟨r, hr, fun post h => ?_, fun post h => ?_⟩
      · unfold wpX_slotAt
        refine zq_xth hT4 ht ?_
        refine br_f (by decide) ?_
        refine zq_xib ht4 (fun _ => ?_) (fun n2 n3 => absurd c (fun z => z.elim n2 n3))
        exact br_f (by decide) (hX post h)
      · unfold wpY_slot
        refine zq_yth hT4 ht ?_
        refine br_f (by decide) ?_
        refine zq_yib ht4 (fun _ => ?_) (fun n2 n3 => absurd c (fun z => z.elim n2 n3))
        exact br_f (by decide) (hY post h)
    · obtain ⟨r, hr, hX, hY⟩ := main 0 (Or.inl rfl)
      refine ⟨r, hr, fun post h => ?_, fun post h => ?_⟩
      · unfold wpX_slotAt
        refine zq_xth hT4 ht ?_
        refine br_f (by decide) ?_
        refine zq_xib ht4 (fun z => absurd z c) (fun _ _ => ?_)
        exact br_t rfl (hX post h)
      · unfold wpY_slot
        refine zq_yth hT4 ht ?_
        refine br_f (by decide) ?_
        refine zq_yib ht4 (fun z => absurd z c) (fun _ _ => ?_)
        exact br_t rfl (hY post h)
theorem zq_gpc (hR : zq_RL T N D L K co ca cb cc st dp sc rm mr pc sw sv pg rd ph pv) (p l : Int32) : zq_G (fun post => wpX_pc post (nI T, nI N, nI D, nI L, nI K, co, ca, cb, cc, cv, cr, sg, st, dp, sc, rs, rm, mr, pc, sw, rg, sv) p l) (fun post => wpY_pc post (nI T, nI N, nI D, nI L, nI K, pg, cv, cr, st, dp, sc, rs, mr, rd, pc, rg, ph, pv, wh, wv) p l) := by
  obtain ⟨r, hr, hX, hY⟩ := zq_jslot (cv := cv) (cr := cr) (sg := sg) (rs := rs) (rg := rg) (wh := wh) (wv := wv) hR p l
  rcases hr with rfl | ⟨s, hs, rfl⟩
  · exact ⟨-1, fun post h => (by unfold wpX_pc; exact hX _ (br_f (by decide) h)), fun post h => (by unfold wpY_pc; exact hY _ (br_f (by decide) h))⟩
  · exact ⟨pc (nI s).toNatClampNeg, fun post h => (by unfold wpX_pc; exact hX _ (br_t (nI_pos' (by omega)) (zq_in s rfl h))), fun post h => (by unfold wpY_pc; exact hY _ (br_t (nI_pos' (by omega)) (zq_in s rfl h)))⟩
theorem zq_greg (hR : zq_RL T N D L K co ca cb cc st dp sc rm mr pc sw sv pg rd ph pv) (p l y : Int32) : zq_G (fun post => wpX_reg post (nI T, nI N, nI D, nI L, nI K, co, ca, cb, cc, cv, cr, sg, st, dp, sc, rs, rm, mr, pc, sw, rg, sv) p l y) (fun post => wpY_reg post (nI T, nI N, nI D, nI L, nI K, pg, cv, cr, st, dp, sc, rs, mr, rd, pc, rg, ph, pv, wh, wv) p l y) := by
  obtain ⟨r, hr, hX, hY⟩ := zq_jslot (cv := cv) (cr := cr) (sg := sg) (rs := rs) (rg := rg) (wh := wh) (wv := wv) hR p l
  rcases hr with rfl | ⟨s, hs, rfl⟩
  · exact ⟨0, fun post h => (by unfold wpX_reg; exact hX _ (br_t (by decide) h)), fun post h => (by unfold wpY_reg; exact hY _ (br_t (by decide) h))⟩
  · have n0 : ¬ nI s < 0 := nI_pos (by omega)
    by_cases c : zq_lo 4 y
    · obtain ⟨j, hj, rfl⟩ := c
      refine ⟨rg (s*4+j), fun post h => (by unfold wpX_reg; exact hX _ (br_f n0 (br_f (nI_pos (by omega)) (br_t (nI_le (b := 3) (by omega) (by omega)) (zq_xget hs hj (zq_3m hj) h))))), fun post h => (by unfold wpY_reg; refine hY _ (br_f n0 (br_f (nI_pos (by omega)) (br_t (nI_le (b := 3) (by omega) (by omega)) (zq_in (s*4+j) (zq_4a s j) ?_)))); rw [zq_rd (a := rg) (s*4+j) (zq_4a s j) rfl]; exact h)⟩
    · exact ⟨0, fun post h => (by unfold wpX_reg; exact hX _ (br_f n0 (zq_lo4 (fun z => absurd z c) (fun _ => h)))), fun post h => (by unfold wpY_reg; exact hY _ (br_f n0 (zq_lo4 (fun z => absurd z c) (fun _ => h))))⟩
theorem zq_gview (hR : zq_RL T N D L K co ca cb cc st dp sc rm mr pc sw sv pg rd ph pv) (p l y : Int32) : zq_G (fun post => wpX_view post (nI T, nI N, nI D, nI L, nI K, co, ca, cb, cc, cv, cr, sg, st, dp, sc, rs, rm, mr, pc, sw, rg, sv) p l y) (fun post => wpY_view post (nI T, nI N, nI D, nI L, nI K, pg, cv, cr, st, dp, sc, rs, mr, rd, pc, rg, ph, pv, wh, wv) p l y) := by
  have hN : N ≤ 16 := hR.1.2.1
  obtain ⟨r, hr, hX, hY⟩ := zq_jslot (cv := cv) (cr := cr) (sg := sg) (rs := rs) (rg := rg) (wh := wh) (wv := wv) hR p l
  rcases hr with rfl | ⟨s, hs, rfl⟩
  · exact ⟨0, fun post h => (by unfold wpX_view; exact hX _ (br_t (by decide) h)), fun post h => (by unfold wpY_view; exact hY _ (br_t (by decide) h))⟩
  · have n0 : ¬ nI s < 0 := nI_pos (by omega)
    rcases pk_ix y (n := N) (by omega) with c | c | ⟨x, hx, rfl⟩
    · exact ⟨0, fun post h => (by unfold wpX_view; exact hX _ (br_f n0 (zq_xcen (Or.inl c) (br_t rfl h)))), fun post h => (by unfold wpY_view; exact hY _ (br_f n0 (zq_ycen (Or.inl c) (br_t rfl h))))⟩
    · exact ⟨0, fun post h => (by unfold wpX_view; exact hX _ (br_f n0 (zq_xcen (Or.inr c) (br_t rfl h)))), fun post h => (by unfold wpY_view; exact hY _ (br_f n0 (zq_ycen (Or.inr c) (br_t rfl h))))⟩
    · obtain ⟨h1, h2⟩ := hR.2.2.2.2.2.1 s hs x (by omega)
      have eph : ph (nI s * 16 + nI x).toNatClampNeg = zq_bz (bt (sw s) x) := zq_rd (s*16+x) (zq_16a s x) h1
      have esv : sv (nI s * 16 + nI x).toNatClampNeg = sv (s*16+x) := zq_rd (s*16+x) (zq_16a s x) rfl
      have epv : pv (nI s * 16 + nI x).toNatClampNeg = pv (s*16+x) := zq_rd (s*16+x) (zq_16a s x) rfl
      have esw : sw (nI s).toNatClampNeg = sw s := zq_rd s rfl rfl
      cases e : bt (sw s) x
      · refine ⟨cv (nI x).toNatClampNeg, fun post h => ?_, fun post h => ?_⟩
        · unfold wpX_view
          refine hX _ ?_
          refine br_f n0 ?_
          refine zq_xce hN hx ?_
          refine br_f (by decide) ?_
          refine zq_in s rfl ?_
          rw [esw]
          refine zq_xhb (by omega) ?_
          rw [e]
          exact br_t rfl (zq_in x rfl h)
        · unfold wpY_view
          refine hY _ ?_
          refine br_f n0 ?_
          refine zq_yce hN hx ?_
          refine br_f (by decide) ?_
          refine zq_in (s*16+x) (zq_16a s x) ?_
          exact br_t (by rw [eph, e]; rfl) (zq_in x rfl h)
      · refine ⟨pv (s*16+x), fun post h => ?_, fun post h => ?_⟩
        · unfold wpX_view
          refine hX _ ?_
          refine br_f n0 ?_
          refine zq_xce hN hx ?_
          refine br_f (by decide) ?_
          refine zq_in s rfl ?_
          rw [esw]
          refine zq_xhb (by omega) ?_
          rw [e]
          refine br_f (by decide) ?_
          refine zq_in (s*16+x) (zq_16a s x) ?_
          rw [esv, (h2 e).2]
          exact h
        · unfold wpY_view
          refine hY _ ?_
          refine br_f n0 ?_
          refine zq_yce hN hx ?_
          refine br_f (by decide) ?_
          refine zq_in (s*16+x) (zq_16a s x) ?_
          refine br_f (by rw [eph, e]; decide) ?_
          refine zq_in (s*16+x) (zq_16a s x) ?_
          rw [epv]
          exact h
theorem zq_gwrote (hR : zq_RL T N D L K co ca cb cc st dp sc rm mr pc sw sv pg rd ph pv) (p l y : Int32) : zq_G (fun post => wpX_wrote post (nI T, nI N, nI D, nI L, nI K, co, ca, cb, cc, cv, cr, sg, st, dp, sc, rs, rm, mr, pc, sw, rg, sv) p l y) (fun post => wpY_wrote post (nI T, nI N, nI D, nI L, nI K, pg, cv, cr, st, dp, sc, rs, mr, rd, pc, rg, ph, pv, wh, wv) p l y) := by
  have hN : N ≤ 16 := hR.1.2.1
  obtain ⟨r, hr, hX, hY⟩ := zq_jslot (cv := cv) (cr := cr) (sg := sg) (rs := rs) (rg := rg) (wh := wh) (wv := wv) hR p l
  rcases hr with rfl | ⟨s, hs, rfl⟩
  · exact ⟨0, fun post h => (by unfold wpX_wrote; exact hX _ (br_t (by decide) h)), fun post h => (by unfold wpY_wrote; exact hY _ (br_t (by decide) h))⟩
  · have n0 : ¬ nI s < 0 := nI_pos (by omega)
    rcases pk_ix y (n := N) (by omega) with c | c | ⟨x, hx, rfl⟩
    · exact ⟨0, fun post h => (by unfold wpX_wrote; exact hX _ (br_f n0 (zq_xcen (Or.inl c) (br_t rfl h)))), fun post h => (by unfold wpY_wrote; exact hY _ (br_f n0 (zq_ycen (Or.inl c) (br_t rfl h))))⟩
    · exact ⟨0, fun post h => (by unfold wpX_wrote; exact hX _ (br_f n0 (zq_xcen (Or.inr c) (br_t rfl h)))), fun post h => (by unfold wpY_wrote; exact hY _ (br_f n0 (zq_ycen (Or.inr c) (br_t rfl h))))⟩
    · obtain ⟨h1, h2⟩ := hR.2.2.2.2.2.1 s hs x (by omega)
      have eph : ph (nI s * 16 + nI x).toNatClampNeg = zq_bz (bt (sw s) x) := zq_rd (s*16+x) (zq_16a s x) h1
      have esw : sw (nI s).toNatClampNeg = sw s := zq_rd s rfl rfl
      refine ⟨zq_bz (bt (sw s) x), fun post h => ?_, fun post h => ?_⟩
      · unfold wpX_wrote
        refine hX _ ?_
        refine br_f n0 ?_
        refine zq_xce hN hx ?_
        refine br_f (by decide) ?_
        refine zq_in s rfl ?_
        rw [esw]
        exact zq_xhb (by omega) ⟨zq_nn (zq_bz01 _), h⟩
      · unfold wpY_wrote
        refine hY _ ?_
        refine br_f n0 ?_
        refine zq_yce hN hx ?_
        refine br_f (by decide) ?_
        refine zq_in (s*16+x) (zq_16a s x) ?_
        cases e : bt (sw s) x
        · rw [e] at h eph
          exact br_t eph h
        · rw [e] at h eph
          exact br_f (by rw [eph]; decide) h
-- waiters
theorem zq_ywt (hR : zq_RL T N D L K co ca cb cc st dp sc rm mr pc sw sv pg rd ph pv) {post : Int32 → Prop} {x : Nat} {a : Int32} (h : post a) : ∀ k i : Nat, i + k = 4 → T ≤ i → ∀ n, k < n → wY_waiters_14 post (nI x) (nI T) (nI N) (nI D) (nI L) (nI K) pg cv cr st dp sc rs mr rd pc rg ph pv wh wv n a (nI i) := by
  intro k
  induction k with
  | zero =>
    intro i hi hT n hn
    obtain ⟨m, rfl⟩ : ∃ m, n = m + 1 := ⟨n - 1, by omega⟩
    exact br_t (nI_le (a := 4) (by omega) (by omega)) h
  | succ k ih =>
    intro i hi hT n hn
    obtain ⟨m, rfl⟩ : ∃ m, n = m + 1 := ⟨n - 1, by omega⟩
    have es : st (nI i).toNatClampNeg = 0 := zq_rd i rfl ((hR.2.2.1 i (by omega)).1 hT)
    refine br_f (nI_ge (b := 4) (by omega) (by omega)) ?_
    refine zq_in i rfl ?_
    refine br_f (by rw [es]; decide) ?_
    exact nm_r (nI_1 i) (ih (i+1) (by omega) (by omega) m (by omega))
theorem zq_jwt (hR : zq_RL T N D L K co ca cb cc st dp sc rm mr pc sw sv pg rd ph pv) {x : Nat} (hx : x < 16) : ∀ k i : Nat, i + k = 4 → ∀ a : Int32, ∃ r : Int32, (∀ (post : Int32 → Prop) (n : Nat), k < n → post r → wX_waiters_14 post (nI x) (nI T) (nI N) (nI D) (nI L) (nI K) co ca cb cc cv cr sg st dp sc rs rm mr pc sw rg sv n a (nI i)) ∧ (∀ (post : Int32 → Prop) (n : Nat), k < n → post r → wY_waiters_14 post (nI x) (nI T) (nI N) (nI D) (nI L) (nI K) pg cv cr st dp sc rs mr rd pc rg ph pv wh wv n a (nI i)) := by
  have hT4 : T ≤ 4 := hR.1.1
  intro k
  induction k with
  | zero =>
    intro i hi a
    refine ⟨a, fun post n hn h => ?_, fun post n hn h => zq_ywt hR h 0 i hi (by omega) n hn⟩
    obtain ⟨m, rfl⟩ : ∃ m, n = m + 1 := ⟨n - 1, by omega⟩
    exact br_t (nI_le (by omega) (by omega)) h
  | succ k ih =>
    intro i hi a
    by_cases hT : i < T
    · have es : st (nI i).toNatClampNeg = st i := zq_rd i rfl rfl
      have er : rd (nI i * 16 + nI x).toNatClampNeg = zq_bz (bt (rm i) x) := zq_rd (i*16+x) (zq_16a i x) (hR.2.2.2.1 i (by omega) x hx)
      have em : rm (nI i).toNatClampNeg = rm i := zq_rd i rfl rfl
      by_cases c : st i = 3
      · cases e : bt (rm i) x
        · obtain ⟨r, hX, hY⟩ := ih (i+1) (by omega) a
          refine ⟨r, fun post n hn h => ?_, fun post n hn h => ?_⟩
          · obtain ⟨m, rfl⟩ : ∃ m, n = m + 1 := ⟨n - 1, by omega⟩
            refine br_f (nI_ge hT (by omega)) ?_
            refine zq_in i rfl ?_
            refine br_t (es.trans c) ?_
            refine zq_in i rfl ?_
            rw [em]
            refine zq_xhb (by omega) ?_
            rw [e]
            exact br_t rfl (nm_r (nI_1 i) (hX post m (by omega) h))
          · obtain ⟨m, rfl⟩ : ∃ m, n = m + 1 := ⟨n - 1, by omega⟩
            refine br_f (nI_ge (b := 4) (by omega) (by omega)) ?_
            refine zq_in i rfl ?_
            refine br_t (es.trans c) ?_
            refine zq_in (i*16+x) (zq_16a i x) ?_
            exact br_t (by rw [er, e]; rfl) (nm_r (nI_1 i) (hY post m (by omega) h))
        · obtain ⟨r, hX, hY⟩ := ih (i+1) (by omega) (a+1)
          refine ⟨r, fun post n hn h => ?_, fun post n hn h => ?_⟩
          · obtain ⟨m, rfl⟩ : ∃ m, n = m + 1 := ⟨n - 1, by omega⟩
            refine br_f (nI_ge hT (by omega)) ?_
            refine zq_in i rfl ?_
            refine br_t (es.trans c) ?_
            refine zq_in i rfl ?_
            rw [em]
            refine zq_xhb (by omega) ?_
            rw [e]
            exact br_f (by decide) (nm_e (nm_r (nI_1 i) (hX post m (by omega) h)))
          · obtain ⟨m, rfl⟩ : ∃ m, n = m + 1 := ⟨n - 1, by omega⟩
            refine br_f (nI_ge (b := 4) (by omega) (by omega)) ?_
            refine zq_in i rfl ?_
            refine br_t (es.trans c) ?_
            refine zq_in (i*16+x) (zq_16a i x) ?_
            exact br_f (by rw [er, e]; decide) (nm_e (nm_r (nI_1 i) (hY post m (by omega) h)))
      · obtain ⟨r, hX, hY⟩ := ih (i+1) (by omega) a
        refine ⟨r, fun post n hn h => ?_, fun post n hn h => ?_⟩
        · obtain ⟨m, rfl⟩ : ∃ m, n = m + 1 := ⟨n - 1, by omega⟩
          refine br_f (nI_ge hT (by omega)) ?_
          refine zq_in i rfl ?_
          exact br_f (fun z => c (es.symm.trans z)) (nm_r (nI_1 i) (hX post m (by omega) h))
        · obtain ⟨m, rfl⟩ : ∃ m, n = m + 1 := ⟨n - 1, by omega⟩
          refine br_f (nI_ge (b := 4) (by omega) (by omega)) ?_
          refine zq_in i rfl ?_
          exact br_f (fun z => c (es.symm.trans z)) (nm_r (nI_1 i) (hY post m (by omega) h))
    · refine ⟨a, fun post n hn h => ?_, fun post n hn h => zq_ywt hR h (k+1) i hi (by omega) n hn⟩
      obtain ⟨m, rfl⟩ : ∃ m, n = m + 1 := ⟨n - 1, by omega⟩
      exact br_t (nI_le (by omega) (by omega)) h
theorem zq_gwaiters (hR : zq_RL T N D L K co ca cb cc st dp sc rm mr pc sw sv pg rd ph pv) (p : Int32) : zq_G (fun post => wpX_waiters post (nI T, nI N, nI D, nI L, nI K, co, ca, cb, cc, cv, cr, sg, st, dp, sc, rs, rm, mr, pc, sw, rg, sv) p) (fun post => wpY_waiters post (nI T, nI N, nI D, nI L, nI K, pg, cv, cr, st, dp, sc, rs, mr, rd, pc, rg, ph, pv, wh, wv) p) := by
  have hN : N ≤ 16 := hR.1.2.1
  rcases pk_ix p (n := N) (by omega) with c | c | ⟨x, hx, rfl⟩
  · exact ⟨-1, fun post h => (by unfold wpX_waiters; exact zq_xcen (Or.inl c) (br_t rfl h)), fun post h => (by unfold wpY_waiters; exact zq_ycen (Or.inl c) (br_t rfl h))⟩
  · exact ⟨-1, fun post h => (by unfold wpX_waiters; exact zq_xcen (Or.inr c) (br_t rfl h)), fun post h => (by unfold wpY_waiters; exact zq_ycen (Or.inr c) (br_t rfl h))⟩
  · obtain ⟨r, hX, hY⟩ := zq_jwt (cv := cv) (cr := cr) (sg := sg) (rs := rs) (rg := rg) (wh := wh) (wv := wv) hR (x := x) (by omega) 4 0 rfl 0
    exact ⟨r, fun post h => (by unfold wpX_waiters; exact zq_xce hN hx (br_f (by decide) ⟨5, hX post 5 (by omega) h⟩)), fun post h => (by unfold wpY_waiters; exact zq_yce hN hx (br_f (by decide) ⟨5, hY post 5 (by omega) h⟩))⟩
end
end
section
section
variable {T N D L K : Nat} {co ca cb cc cv cr sg st dp sc rs rm mr pc sw rg sv pg rd ph pv wh wv : Nat → Int32}
theorem zq_init (hT : T ≤ 4) (hN : N ≤ 16) (hD : D ≤ 3) : zq_rr (nI T, nI N, nI D, nI 0, nI 0, fun _ => 0, fun _ => 0, fun _ => 0, fun _ => 0, fun _ => 0, fun _ => 0, fun _ => 0, fun _ => 0, fun _ => 0, fun _ => 0, fun _ => 0, fun _ => 0, fun _ => 0, fun _ => 0, fun _ => 0, fun _ => 0, fun _ => 0) (nI T, nI N, nI D, nI 0, nI 0, fun _ => 0, fun _ => 0, fun _ => 0, fun _ => 0, fun _ => 0, fun _ => 0, fun _ => 0, fun _ => 0, fun _ => 0, fun _ => 0, fun _ => 0, fun _ => 0, fun _ => 0, fun _ => 0, fun _ => 0) := by
  refine zq_rr_mk ⟨⟨hT, hN, hD, by omega, by omega⟩, fun i hi => absurd hi (Nat.not_lt_zero i), fun t _ => ⟨fun _ => rfl, ⟨0, by omega, rfl⟩, ⟨0, by omega, rfl⟩, Or.inl rfl, fun _ => rfl, fun _ _ => ⟨rfl, rfl⟩⟩, fun t _ x _ => ?_, fun s _ => ⟨0, by omega, rfl⟩, fun s _ x _ => ⟨?_, fun z => ?_⟩, fun t _ => rfl⟩
  · show (0 : Int32) = zq_bz (bt 0 x)
    rw [b_0]
    rfl
  · show (0 : Int32) = zq_bz (bt 0 x)
    rw [b_0]
    rfl
  · have z' : bt 0 x = true := z
    rw [b_0] at z'
    exact Bool.noConfusion z'
theorem zq_wpstep {post : Int32 → SX → Prop} {p : Int32} (h : ∀ Q : Int32 → SX → Prop, (∀ r u, post r u → Q r u) → wpX_stepThread Q (nI T, nI N, nI D, nI L, nI K, co, ca, cb, cc, cv, cr, sg, st, dp, sc, rs, rm, mr, pc, sw, rg, sv) p) : wpX_step post (nI T, nI N, nI D, nI L, nI K, co, ca, cb, cc, cv, cr, sg, st, dp, sc, rs, rm, mr, pc, sw, rg, sv) p := h _ (fun r u hu => zq_xe hu)
end
-- the owed statements are those of claim/defs.txt
def i_Rel (k : Nat) (u : SX) (v : SY) : Prop := zq_rr u v
theorem i_up {k : Nat} {u : SX} {v : SY} (h : i_Rel k u v) : i_Rel (k + 5) u v := h
theorem zq_joinJ {A : (Int32 → SX → Prop) → Prop} {B : (Int32 → SY → Prop) → Prop} {k : Nat} (h : zq_J zq_rr A B) : A (fun r u' => B (fun r' v' => r' = r ∧ i_Rel k u' v')) := by
  obtain ⟨r, u, v, h1, h2, h3⟩ := h
  exact h2 _ (h3 _ ⟨rfl, h1⟩)
theorem zq_joinG {A B : (Int32 → Prop) → Prop} {C : Prop} (h : zq_G A B) (hC : C) : A (fun r => B (fun r' => r' = r ∧ C)) := by
  obtain ⟨r, h2, h3⟩ := h
  exact h2 _ (h3 _ ⟨rfl, hC⟩)
theorem i_vc0 (k0 : Int32) (k1 : Int32) (k2 : Int32) : wpX_init (fun u => wpY_init (fun v => i_Rel 3 u v) k0 k1 k2) k0 k1 k2 := by
  obtain ⟨T, _, hT, eT⟩ := zq_clamp_n k0 (M := 4) (by omega) (by omega)
  obtain ⟨N, _, hN, eN⟩ := zq_clamp_n k1 (M := 16) (by omega) (by omega)
  obtain ⟨D, _, hD, eD⟩ := zq_clamp_n k2 (M := 3) (by omega) (by omega)
  have eT' : zq_clamp k0 1 4 = nI T := eT
  have eN' : zq_clamp k1 1 16 = nI N := eN
  have eD' : zq_clamp k2 1 3 = nI D := eD
  unfold wpX_init wpY_init
  refine zq_xclamp ?_
  rw [eT']
  refine zq_xclamp ?_
  rw [eN']
  refine zq_xclamp ?_
  rw [eD']
  refine zq_yclamp ?_
  rw [eT']
  refine zq_yclamp ?_
  rw [eN']
  refine zq_yclamp ?_
  rw [eD']
  exact zq_init hT hN hD
theorem i_vc_emit {k : Nat} {u : SX} {v : SY} (I : i_Rel k u v) (hk : k + 5 ≤ 2563) (v1 : Int32) (v2 : Int32) (v3 : Int32) (v4 : Int32) : wpX_emit (fun r u' => wpY_emit (fun r' v' => r' = r ∧ i_Rel (k + 5) u' v') v v1 v2 v3 v4) u v1 v2 v3 v4 := by
  refine zq_rr_el (P := fun u v => wpX_emit (fun r u' => wpY_emit (fun r' v' => r' = r ∧ i_Rel (k + 5) u' v') v v1 v2 v3 v4) u v1 v2 v3 v4) ?_ I
  intro T N D L K co ca cb cc cv cr sg st dp sc rs rm mr pc sw rg sv pg rd ph pv wh wv hR
  exact zq_joinJ (zq_jemit hR v1 v2 v3 v4)
theorem i_vc_code {k : Nat} {u : SX} {v : SY} (I : i_Rel k u v) (hk : k + 5 ≤ 2563) (v1 : Int32) (v2 : Int32) : wpX_code (fun r => wpY_code (fun r' => r' = r ∧ i_Rel (k + 5) u v) v v1 v2) u v1 v2 := by
  refine zq_rr_el (P := fun u v => wpX_code (fun r => wpY_code (fun r' => r' = r ∧ i_Rel (k + 5) u v) v v1 v2) u v1 v2) ?_ I
  intro T N D L K co ca cb cc cv cr sg st dp sc rs rm mr pc sw rg sv pg rd ph pv wh wv hR
  exact zq_joinG (zq_gcode hR v1 v2) (zq_rr_mk hR)
theorem i_vc_start {k : Nat} {u : SX} {v : SY} (I : i_Rel k u v) (hk : k + 5 ≤ 2563) (v1 : Int32) (v2 : Int32) (v3 : Int32) : wpX_start (fun r u' => wpY_start (fun r' v' => r' = r ∧ i_Rel (k + 5) u' v') v v1 v2 v3) u v1 v2 v3 := by
  refine zq_rr_el (P := fun u v => wpX_start (fun r u' => wpY_start (fun r' v' => r' = r ∧ i_Rel (k + 5) u' v') v v1 v2 v3) u v1 v2 v3) ?_ I
  intro T N D L K co ca cb cc cv cr sg st dp sc rs rm mr pc sw rg sv pg rd ph pv wh wv hR
  exact zq_joinJ (zq_jstart hR v1 v2 v3)
theorem i_vc_step {k : Nat} {u : SX} {v : SY} (I : i_Rel k u v) (hk : k + 5 ≤ 2563) (v1 : Int32) : wpX_step (fun r u' => wpY_step (fun r' v' => r' = r ∧ i_Rel (k + 5) u' v') v v1) u v1 := by
  refine zq_rr_el (P := fun u v => wpX_step (fun r u' => wpY_step (fun r' v' => r' = r ∧ i_Rel (k + 5) u' v') v v1) u v1) ?_ I
  intro T N D L K co ca cb cc cv cr sg st dp sc rs rm mr pc sw rg sv pg rd ph pv wh wv hR
  exact zq_joinJ (A := fun post => wpX_step post (nI T, nI N, nI D, nI L, nI K, co, ca, cb, cc, cv, cr, sg, st, dp, sc, rs, rm, mr, pc, sw, rg, sv) v1) (B := fun post => wpY_step post (nI T, nI N, nI D, nI L, nI K, pg, cv, cr, st, dp, sc, rs, mr, rd, pc, rg, ph, pv, wh, wv) v1) (by
    obtain ⟨r, u, v, h1, h2, h3⟩ := zq_jstep (cv := cv) (cr := cr) (sg := sg) (rs := rs) (rg := rg) (wh := wh) (wv := wv) hR v1
    exact ⟨r, u, v, h1, fun post h => zq_wpstep (fun Q hQ => h2 Q (hQ r u h)), h3⟩)
theorem i_vc_run {k : Nat} {u : SX} {v : SY} (I : i_Rel k u v) (hk : k + 5 ≤ 2563) (v1 : Int32) (v2 : Int32) : wpX_run (fun r u' => wpY_run (fun r' v' => r' = r ∧ i_Rel (k + 5) u' v') v v1 v2) u v1 v2 := by
  refine zq_rr_el (P := fun u v => wpX_run (fun r u' => wpY_run (fun r' v' => r' = r ∧ i_Rel (k + 5) u' v') v v1 v2) u v1 v2) ?_ I
  intro T N D L K co ca cb cc cv cr sg st dp sc rs rm mr pc sw rg sv pg rd ph pv wh wv hR
  obtain ⟨M, _, hM, eM⟩ := zq_clamp_n v2 (M := 128) (by omega) (by omega)
  have eM' : zq_clamp v2 1 128 = nI M := eM
  have J := zq_jrun v1 hM M 0 (by omega) (-1) T N D L K co ca cb cc cv cr sg st dp sc rs rm mr pc sw rg sv pg rd ph pv wh wv hR
  refine zq_joinJ (A := fun post => wpX_run post (nI T, nI N, nI D, nI L, nI K, co, ca, cb, cc, cv, cr, sg, st, dp, sc, rs, rm, mr, pc, sw, rg, sv) v1 v2) (B := fun post => wpY_run post (nI T, nI N, nI D, nI L, nI K, pg, cv, cr, st, dp, sc, rs, mr, rd, pc, rg, ph, pv, wh, wv) v1 v2) ?_
  obtain ⟨r, u, v, h1, h2, h3⟩ := J
  refine ⟨r, u, v, h1, fun post h => ?_, fun post h => ?_⟩
  · unfold wpX_run
    refine zq_xclamp ?_
    rw [eM']
    exact ⟨M + 1, h2 post h⟩
  · unfold wpY_run
    refine zq_yclamp ?_
    rw [eM']
    exact ⟨M + 1, h3 post h⟩
theorem i_vc_interleave {k : Nat} {u : SX} {v : SY} (I : i_Rel k u v) (hk : k + 5 ≤ 2563) (a0 : Int64) (v3 : Int32) : wpX_interleave (fun r u' => wpY_interleave (fun r' v' => r' = r ∧ i_Rel (k + 5) u' v') v a0 v3) u a0 v3 := by
  refine zq_rr_el (P := fun u v => wpX_interleave (fun r u' => wpY_interleave (fun r' v' => r' = r ∧ i_Rel (k + 5) u' v') v a0 v3) u a0 v3) ?_ I
  intro T N D L K co ca cb cc cv cr sg st dp sc rs rm mr pc sw rg sv pg rd ph pv wh wv hR
  obtain ⟨M, _, hM, eM⟩ := zq_clamp_n v3 (M := 32) (by omega) (by omega)
  have eM' : zq_clamp v3 1 32 = nI M := eM
  have J := zq_jint a0 hM M 0 (by omega) 0 T N D L K co ca cb cc cv cr sg st dp sc rs rm mr pc sw rg sv pg rd ph pv wh wv hR
  refine zq_joinJ (A := fun post => wpX_interleave post (nI T, nI N, nI D, nI L, nI K, co, ca, cb, cc, cv, cr, sg, st, dp, sc, rs, rm, mr, pc, sw, rg, sv) a0 v3) (B := fun post => wpY_interleave post (nI T, nI N, nI D, nI L, nI K, pg, cv, cr, st, dp, sc, rs, mr, rd, pc, rg, ph, pv, wh, wv) a0 v3) ?_
  obtain ⟨r, u, v, h1, h2, h3⟩ := J
  refine ⟨r, u, v, h1, fun post h => ?_, fun post h => ?_⟩
  · unfold wpX_interleave
    refine zq_xclamp ?_
    rw [eM']
    exact ⟨M + 1, h2 post h⟩
  · unfold wpY_interleave
    refine zq_yclamp ?_
    rw [eM']
    exact ⟨M + 1, h3 post h⟩
theorem i_vc_poke {k : Nat} {u : SX} {v : SY} (I : i_Rel k u v) (hk : k + 5 ≤ 2563) (v1 : Int32) (v2 : Int32) : wpX_poke (fun r u' => wpY_poke (fun r' v' => r' = r ∧ i_Rel (k + 5) u' v') v v1 v2) u v1 v2 := by
  refine zq_rr_el (P := fun u v => wpX_poke (fun r u' => wpY_poke (fun r' v' => r' = r ∧ i_Rel (k + 5) u' v') v v1 v2) u v1 v2) ?_ I
  intro T N D L K co ca cb cc cv cr sg st dp sc rs rm mr pc sw rg sv pg rd ph pv wh wv hR
  exact zq_joinJ (zq_jpoke hR v1 v2)
theorem i_vc_abort {k : Nat} {u : SX} {v : SY} (I : i_Rel k u v) (hk : k + 5 ≤ 2563) (v1 : Int32) : wpX_abort (fun r u' => wpY_abort (fun r' v' => r' = r ∧ i_Rel (k + 5) u' v') v v1) u v1 := by
  refine zq_rr_el (P := fun u v => wpX_abort (fun r u' => wpY_abort (fun r' v' => r' = r ∧ i_Rel (k + 5) u' v') v v1) u v1) ?_ I
  intro T N D L K co ca cb cc cv cr sg st dp sc rs rm mr pc sw rg sv pg rd ph pv wh wv hR
  exact zq_joinJ (zq_jabort hR v1)
theorem i_vc_cell {k : Nat} {u : SX} {v : SY} (I : i_Rel k u v) (hk : k + 5 ≤ 2563) (v1 : Int32) : wpX_cell (fun r => wpY_cell (fun r' => r' = r ∧ i_Rel (k + 5) u v) v v1) u v1 := by
  refine zq_rr_el (P := fun u v => wpX_cell (fun r => wpY_cell (fun r' => r' = r ∧ i_Rel (k + 5) u v) v v1) u v1) ?_ I
  intro T N D L K co ca cb cc cv cr sg st dp sc rs rm mr pc sw rg sv pg rd ph pv wh wv hR
  exact zq_joinG (zq_gcell hR v1) (zq_rr_mk hR)
theorem i_vc_version {k : Nat} {u : SX} {v : SY} (I : i_Rel k u v) (hk : k + 5 ≤ 2563) (v1 : Int32) : wpX_version (fun r => wpY_version (fun r' => r' = r ∧ i_Rel (k + 5) u v) v v1) u v1 := by
  refine zq_rr_el (P := fun u v => wpX_version (fun r => wpY_version (fun r' => r' = r ∧ i_Rel (k + 5) u v) v v1) u v1) ?_ I
  intro T N D L K co ca cb cc cv cr sg st dp sc rs rm mr pc sw rg sv pg rd ph pv wh wv hR
  exact zq_joinG (zq_gversion hR v1) (zq_rr_mk hR)
theorem i_vc_clock {k : Nat} {u : SX} {v : SY} (I : i_Rel k u v) (hk : k + 5 ≤ 2563) : wpX_clock (fun r => wpY_clock (fun r' => r' = r ∧ i_Rel (k + 5) u v) v) u := by
  refine zq_rr_el (P := fun u v => wpX_clock (fun r => wpY_clock (fun r' => r' = r ∧ i_Rel (k + 5) u v) v) u) ?_ I
  intro T N D L K co ca cb cc cv cr sg st dp sc rs rm mr pc sw rg sv pg rd ph pv wh wv hR
  exact ⟨rfl, zq_rr_mk hR⟩
theorem i_vc_status {k : Nat} {u : SX} {v : SY} (I : i_Rel k u v) (hk : k + 5 ≤ 2563) (v1 : Int32) : wpX_status (fun r => wpY_status (fun r' => r' = r ∧ i_Rel (k + 5) u v) v v1) u v1 := by
  refine zq_rr_el (P := fun u v => wpX_status (fun r => wpY_status (fun r' => r' = r ∧ i_Rel (k + 5) u v) v v1) u v1) ?_ I
  intro T N D L K co ca cb cc cv cr sg st dp sc rs rm mr pc sw rg sv pg rd ph pv wh wv hR
  exact zq_joinG (zq_gstatus hR v1) (zq_rr_mk hR)
theorem i_vc_pc {k : Nat} {u : SX} {v : SY} (I : i_Rel k u v) (hk : k + 5 ≤ 2563) (v1 : Int32) (v2 : Int32) : wpX_pc (fun r => wpY_pc (fun r' => r' = r ∧ i_Rel (k + 5) u v) v v1 v2) u v1 v2 := by
  refine zq_rr_el (P := fun u v => wpX_pc (fun r => wpY_pc (fun r' => r' = r ∧ i_Rel (k + 5) u v) v v1 v2) u v1 v2) ?_ I
  intro T N D L K co ca cb cc cv cr sg st dp sc rs rm mr pc sw rg sv pg rd ph pv wh wv hR
  exact zq_joinG (zq_gpc hR v1 v2) (zq_rr_mk hR)
theorem i_vc_reg {k : Nat} {u : SX} {v : SY} (I : i_Rel k u v) (hk : k + 5 ≤ 2563) (v1 : Int32) (v2 : Int32) (v3 : Int32) : wpX_reg (fun r => wpY_reg (fun r' => r' = r ∧ i_Rel (k + 5) u v) v v1 v2 v3) u v1 v2 v3 := by
  refine zq_rr_el (P := fun u v => wpX_reg (fun r => wpY_reg (fun r' => r' = r ∧ i_Rel (k + 5) u v) v v1 v2 v3) u v1 v2 v3) ?_ I
  intro T N D L K co ca cb cc cv cr sg st dp sc rs rm mr pc sw rg sv pg rd ph pv wh wv hR
  exact zq_joinG (zq_greg hR v1 v2 v3) (zq_rr_mk hR)
theorem i_vc_view {k : Nat} {u : SX} {v : SY} (I : i_Rel k u v) (hk : k + 5 ≤ 2563) (v1 : Int32) (v2 : Int32) (v3 : Int32) : wpX_view (fun r => wpY_view (fun r' => r' = r ∧ i_Rel (k + 5) u v) v v1 v2 v3) u v1 v2 v3 := by
  refine zq_rr_el (P := fun u v => wpX_view (fun r => wpY_view (fun r' => r' = r ∧ i_Rel (k + 5) u v) v v1 v2 v3) u v1 v2 v3) ?_ I
  intro T N D L K co ca cb cc cv cr sg st dp sc rs rm mr pc sw rg sv pg rd ph pv wh wv hR
  exact zq_joinG (zq_gview hR v1 v2 v3) (zq_rr_mk hR)
theorem i_vc_wrote {k : Nat} {u : SX} {v : SY} (I : i_Rel k u v) (hk : k + 5 ≤ 2563) (v1 : Int32) (v2 : Int32) (v3 : Int32) : wpX_wrote (fun r => wpY_wrote (fun r' => r' = r ∧ i_Rel (k + 5) u v) v v1 v2 v3) u v1 v2 v3 := by
  refine zq_rr_el (P := fun u v => wpX_wrote (fun r => wpY_wrote (fun r' => r' = r ∧ i_Rel (k + 5) u v) v v1 v2 v3) u v1 v2 v3) ?_ I
  intro T N D L K co ca cb cc cv cr sg st dp sc rs rm mr pc sw rg sv pg rd ph pv wh wv hR
  exact zq_joinG (zq_gwrote hR v1 v2 v3) (zq_rr_mk hR)
theorem i_vc_hasRead {k : Nat} {u : SX} {v : SY} (I : i_Rel k u v) (hk : k + 5 ≤ 2563) (v1 : Int32) (v2 : Int32) : wpX_hasRead (fun r => wpY_hasRead (fun r' => r' = r ∧ i_Rel (k + 5) u v) v v1 v2) u v1 v2 := by
  refine zq_rr_el (P := fun u v => wpX_hasRead (fun r => wpY_hasRead (fun r' => r' = r ∧ i_Rel (k + 5) u v) v v1 v2) u v1 v2) ?_ I
  intro T N D L K co ca cb cc cv cr sg st dp sc rs rm mr pc sw rg sv pg rd ph pv wh wv hR
  exact zq_joinG (zq_ghasRead hR v1 v2) (zq_rr_mk hR)
theorem i_vc_depth {k : Nat} {u : SX} {v : SY} (I : i_Rel k u v) (hk : k + 5 ≤ 2563) (v1 : Int32) : wpX_depth (fun r => wpY_depth (fun r' => r' = r ∧ i_Rel (k + 5) u v) v v1) u v1 := by
  refine zq_rr_el (P := fun u v => wpX_depth (fun r => wpY_depth (fun r' => r' = r ∧ i_Rel (k + 5) u v) v v1) u v1) ?_ I
  intro T N D L K co ca cb cc cv cr sg st dp sc rs rm mr pc sw rg sv pg rd ph pv wh wv hR
  exact zq_joinG (zq_gdepth hR v1) (zq_rr_mk hR)
theorem i_vc_blockSteps {k : Nat} {u : SX} {v : SY} (I : i_Rel k u v) (hk : k + 5 ≤ 2563) (v1 : Int32) : wpX_blockSteps (fun r => wpY_blockSteps (fun r' => r' = r ∧ i_Rel (k + 5) u v) v v1) u v1 := by
  refine zq_rr_el (P := fun u v => wpX_blockSteps (fun r => wpY_blockSteps (fun r' => r' = r ∧ i_Rel (k + 5) u v) v v1) u v1) ?_ I
  intro T N D L K co ca cb cc cv cr sg st dp sc rs rm mr pc sw rg sv pg rd ph pv wh wv hR
  exact zq_joinG (zq_gblockSteps hR v1) (zq_rr_mk hR)
theorem i_vc_restarts {k : Nat} {u : SX} {v : SY} (I : i_Rel k u v) (hk : k + 5 ≤ 2563) (v1 : Int32) : wpX_restarts (fun r => wpY_restarts (fun r' => r' = r ∧ i_Rel (k + 5) u v) v v1) u v1 := by
  refine zq_rr_el (P := fun u v => wpX_restarts (fun r => wpY_restarts (fun r' => r' = r ∧ i_Rel (k + 5) u v) v v1) u v1) ?_ I
  intro T N D L K co ca cb cc cv cr sg st dp sc rs rm mr pc sw rg sv pg rd ph pv wh wv hR
  exact zq_joinG (zq_grestarts hR v1) (zq_rr_mk hR)
theorem i_vc_stale {k : Nat} {u : SX} {v : SY} (I : i_Rel k u v) (hk : k + 5 ≤ 2563) (v1 : Int32) : wpX_stale (fun r => wpY_stale (fun r' => r' = r ∧ i_Rel (k + 5) u v) v v1) u v1 := by
  refine zq_rr_el (P := fun u v => wpX_stale (fun r => wpY_stale (fun r' => r' = r ∧ i_Rel (k + 5) u v) v v1) u v1) ?_ I
  intro T N D L K co ca cb cc cv cr sg st dp sc rs rm mr pc sw rg sv pg rd ph pv wh wv hR
  exact zq_joinG (zq_gstale hR v1) (zq_rr_mk hR)
theorem i_vc_waiters {k : Nat} {u : SX} {v : SY} (I : i_Rel k u v) (hk : k + 5 ≤ 2563) (v1 : Int32) : wpX_waiters (fun r => wpY_waiters (fun r' => r' = r ∧ i_Rel (k + 5) u v) v v1) u v1 := by
  refine zq_rr_el (P := fun u v => wpX_waiters (fun r => wpY_waiters (fun r' => r' = r ∧ i_Rel (k + 5) u v) v v1) u v1) ?_ I
  intro T N D L K co ca cb cc cv cr sg st dp sc rs rm mr pc sw rg sv pg rd ph pv wh wv hR
  exact zq_joinG (zq_gwaiters hR v1) (zq_rr_mk hR)
end
