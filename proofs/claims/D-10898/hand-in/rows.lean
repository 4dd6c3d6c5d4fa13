section
/-! pure rows: the field of eight, the code word, bits -/
/-- powers of 2 among the symbols, twice; which power a symbol is; the generator after k factors -/
def ds_P (j : Nat) : Nat := [1, 2, 4, 3, 6, 7, 5, 1, 2, 4, 3, 6, 7, 5].getD j 0
def ds_Lg (j : Nat) : Nat := [0, 0, 1, 3, 2, 6, 4, 5].getD j 0
def ds_Gk (k j : Nat) : Nat := ([[1, 0, 0, 0, 0], [2, 1, 0, 0, 0], [3, 6, 1, 0, 0], [5, 2, 5, 1, 0], [3, 2, 1, 3, 1]].getD k []).getD j 0
/-- the product of two symbols, out of one table of three bits a pair -/
def ds_mul (p q : Nat) : Nat := 2821848294356612419217921029917578219971947684264937521152 >>> (3 * (8 * p + q)) &&& 7
def ds_scr (j : Nat) : Nat := (j * j + 3 * j + 5) % 8
theorem ds_mul_lt (p q : Nat) : ds_mul p q < 8 := by
  unfold ds_mul
  exact Nat.lt_succ_of_le Nat.and_le_right
theorem ds_xor_lt {a b : Nat} (ha : a < 8) (hb : b < 8) : a ^^^ b < 8 := Nat.xor_lt_two_pow (n := 3) ha hb
theorem ds_scr_lt (j : Nat) : ds_scr j < 8 := Nat.mod_lt _ (by decide)
theorem ds_mul_z : ∀ p, p < 8 → ∀ q, q < 8 → (p = 0 ∨ q = 0) → ds_mul p q = 0 := by decide +kernel
theorem ds_mul_P : ∀ p, p < 8 → ∀ q, q < 8 → 0 < p → 0 < q → ds_Lg p + ds_Lg q < 14 ∧ ds_P (ds_Lg p + ds_Lg q) = ds_mul p q := by decide +kernel
theorem ds_P_lt : ∀ j, j < 14 → ds_P j < 8 := by decide +kernel
theorem ds_Gk_lt : ∀ k, k < 5 → ∀ j, j < 5 → ds_Gk k j < 8 := by decide +kernel
theorem ds_Gk_in : ∀ k, k < 5 → ∀ i, i < 5 → 0 < k → 0 < i → i ≤ k → ds_Gk (k - 1) (i - 1) ^^^ ds_mul (ds_Gk (k - 1) i) (ds_P k) = ds_Gk k i := by decide +kernel
theorem ds_Gk_0 : ∀ k, k < 5 → 0 < k → ds_mul (ds_Gk (k - 1) 0) (ds_P k) = ds_Gk k 0 := by decide +kernel
theorem ds_Gk_hi : ∀ k, k < 5 → ∀ j, j < 5 → 0 < k → k < j → ds_Gk (k - 1) j = ds_Gk k j := by decide +kernel
/-- one turn of the register r with back b -/
def ds_st (b : Nat) (r : Nat → Nat) (j : Nat) : Nat := if j = 0 then ds_mul b (ds_Gk 4 0) else r (j - 1) ^^^ ds_mul b (ds_Gk 4 j)
def ds_rg (s : Nat) (r : Nat → Nat) : Nat → Nat := ds_st (s ^^^ r 3) r
def ds_wd (s0 s1 s2 j : Nat) : Nat := if j < 4 then ds_rg s0 (ds_rg s1 (ds_rg s2 (fun _ => 0))) j else if j = 4 then s0 else if j = 5 then s1 else s2
/-- a sum, by its last t symbols -/
def ds_hor (k : Nat) (w : Nat → Nat) : Nat → Nat
  | 0 => 0
  | t + 1 => ds_mul (ds_hor k w t) (ds_P k) ^^^ w (6 - t)
theorem ds_st_lt {b : Nat} {r : Nat → Nat} (hr : ∀ j, j < 4 → r j < 8) : ∀ j, j < 4 → ds_st b r j < 8 := by
  intro j hj
  unfold ds_st
  split
  · exact ds_mul_lt _ _
  · exact ds_xor_lt (hr _ (by omega)) (ds_mul_lt _ _)
theorem ds_wd_lt {s0 s1 s2 : Nat} (h0 : s0 < 8) (h1 : s1 < 8) (h2 : s2 < 8) (j : Nat) : ds_wd s0 s1 s2 j < 8 := by
  unfold ds_wd
  split
  · rename_i h
    exact ds_st_lt (ds_st_lt (ds_st_lt (fun _ _ => by show 0 < 8; decide))) j h
  · split
    · exact h0
    · split
      · exact h1
      · exact h2
theorem ds_hor_lt {k : Nat} {w : Nat → Nat} (hw : ∀ j, j < 7 → w j < 8) (t : Nat) : ds_hor k w t < 8 := by
  cases t with
  | zero => show 0 < 8; decide
  | succ t => exact ds_xor_lt (ds_mul_lt _ _) (hw _ (by omega))
set_option maxRecDepth 100000 in
theorem ds_sum0 : ∀ s0, s0 < 8 → ∀ s1, s1 < 8 → ∀ s2, s2 < 8 → ∀ k, k < 5 → 0 < k → ds_hor k (ds_wd s0 s1 s2) 7 = 0 := by decide +kernel
/-- the message's symbol for place m of word h -/
def ds_sy (M m h : Nat) : Nat := M / 2 ^ (3 * (5 - 2 * m - h)) % 8
theorem ds_sy_lt (M m h : Nat) : ds_sy M m h < 8 := Nat.mod_lt _ (by decide)
def ds_ww (M h : Nat) : Nat → Nat := ds_wd (ds_sy M 0 h) (ds_sy M 1 h) (ds_sy M 2 h)
theorem ds_ww_lt (M h j : Nat) : ds_ww M h j < 8 := ds_wd_lt (ds_sy_lt _ _ _) (ds_sy_lt _ _ _) (ds_sy_lt _ _ _) j
theorem ds_ww_sum (M h : Nat) {k : Nat} (hk : k < 5) (h0 : 0 < k) : ds_hor k (ds_ww M h) 7 = 0 := ds_sum0 _ (ds_sy_lt _ _ _) _ (ds_sy_lt _ _ _) _ (ds_sy_lt _ _ _) k hk h0
theorem ds_ww_hi (M h : Nat) : ∀ m, m < 3 → ds_ww M h (4 + m) = ds_sy M m h := by
  intro m hm
  rcases (by omega : m = 0 ∨ m = 1 ∨ m = 2) with e | e | e <;> subst e <;> rfl
/-- what is read back: the halves' symbols or-ed together -/
def ds_acc (M h : Nat) (x : Nat) : Nat → Nat
  | 0 => x
  | m + 1 => ds_acc M h x m ||| ds_sy M m h * 2 ^ (3 * (5 - 2 * m - h))
theorem ds_acc_all (M : Nat) (hM : M < 2 ^ 18) : ds_acc M 1 (ds_acc M 0 0 3) 3 = M := by
  have e : ds_acc M 1 (ds_acc M 0 0 3) 3 = (((((0 ||| (M >>> 15 % 2 ^ 3) <<< 15) ||| (M >>> 9 % 2 ^ 3) <<< 9) ||| (M >>> 3 % 2 ^ 3) <<< 3) ||| (M >>> 12 % 2 ^ 3) <<< 12) ||| (M >>> 6 % 2 ^ 3) <<< 6) ||| (M >>> 0 % 2 ^ 3) <<< 0 := by
    simp only [Nat.shiftRight_eq_div_pow, Nat.shiftLeft_eq]
    rfl
  rw [e]
  apply Nat.eq_of_testBit_eq
  intro i
  simp only [Nat.testBit_or, Nat.testBit_shiftLeft, Nat.testBit_mod_two_pow, Nat.testBit_shiftRight, Nat.zero_testBit, Bool.false_or]
  rcases Nat.lt_or_ge i 18 with h | h
  · have c : i = 0 ∨ i = 1 ∨ i = 2 ∨ i = 3 ∨ i = 4 ∨ i = 5 ∨ i = 6 ∨ i = 7 ∨ i = 8 ∨ i = 9 ∨ i = 10 ∨ i = 11 ∨ i = 12 ∨ i = 13 ∨ i = 14 ∨ i = 15 ∨ i = 16 ∨ i = 17 := by omega
    rcases c with c | c | c | c | c | c | c | c | c | c | c | c | c | c | c | c | c | c <;> subst c <;> simp
  · rw [Nat.testBit_lt_two_pow (Nat.lt_of_lt_of_le hM (Nat.pow_le_pow_right (by decide) h))]
    simp [show ¬ i - 15 < 3 by omega, show ¬ i - 9 < 3 by omega, show ¬ i - 3 < 3 by omega, show ¬ i - 12 < 3 by omega, show ¬ i - 6 < 3 by omega, show ¬ i < 3 by omega]
/-! ints -/
theorem ds_xor (a b : Nat) : nI a ^^^ nI b = nI (a ^^^ b) := by
  apply Int32.toBitVec_inj.1
  show BitVec.ofNat 32 a ^^^ BitVec.ofNat 32 b = BitVec.ofNat 32 (a ^^^ b)
  apply BitVec.eq_of_getLsbD_eq
  intro i hi
  simp [hi]
theorem ds_or (a b : Nat) : nI a ||| nI b = nI (a ||| b) := by
  apply Int32.toBitVec_inj.1
  show BitVec.ofNat 32 a ||| BitVec.ofNat 32 b = BitVec.ofNat 32 (a ||| b)
  apply BitVec.eq_of_getLsbD_eq
  intro i hi
  simp [hi]
theorem ds_i8 : ∀ n, n < 8 → (nI n).toInt8.toInt32 = nI n := by decide +kernel
theorem ds_scrI : ∀ j, j < 14 → (((nI j * nI j) + (3 * nI j)) + 5) &&& 7 = nI (ds_scr j) := by decide +kernel
theorem ds_bitI : ∀ v, v < 8 → ∀ k, k < 3 → decide (((nI v >>> ((2 - nI k) &&& 31)) &&& 1) = 1) = v.testBit (2 - k) := by decide +kernel
theorem ds_markI : ∀ k, k < 8 → decide ((((178 : Int32) >>> ((7 - nI k) &&& 31)) &&& 1) = 1) = (178 : Nat).testBit (7 - k) := by decide +kernel
theorem ds_cntI : ∀ m, m < 3 → ∀ h, h < 2 → (((3 * ((5 - (2 * nI m)) - nI h)) &&& 31).toBitVec.smod 32).toNat = 3 * (5 - 2 * m - h) := by decide +kernel
theorem ds_syI {M m h : Nat} (hM : M < 2 ^ 18) (hm : m < 3) (hh : h < 2) : (nI M >>> ((3 * ((5 - (2 * nI m)) - nI h)) &&& 31)) &&& 7 = nI (ds_sy M m h) := by
  rw [pk_shrN (by omega) _ _ (ds_cntI m hm h hh), pk_andN (Nat.lt_of_le_of_lt (Nat.div_le_self _ _) (by omega)) 3 (by decide)]
  rfl
theorem ds_shlI {s m h : Nat} (hs : s < 8) (hm : m < 3) (hh : h < 2) : nI s <<< ((3 * ((5 - (2 * nI m)) - nI h)) &&& 31) = nI (s * 2 ^ (3 * (5 - 2 * m - h))) := by
  refine pk_shlN _ _ (ds_cntI m hm h hh) ?_
  have h1 : 2 ^ (3 * (5 - 2 * m - h)) ≤ 2 ^ 15 := Nat.pow_le_pow_right (by decide) (by omega)
  have h2 : s * 2 ^ (3 * (5 - 2 * m - h)) ≤ 8 * 2 ^ 15 := Nat.mul_le_mul (by omega) h1
  omega
/-! the line: all 60 bits of its first word -/
def ds_b (a : Nat → Int64) (i : Nat) : Bool := (a 0).toBitVec.getLsbD i
theorem ds_div0 : ∀ i, i < 60 → nI i / 60 = nI 0 := by decide +kernel
theorem ds_msk : ∀ i, i < 60 → ((1 : Int64) <<< ((nI i - nI i / 60 * 60).toInt64 &&& 63)).toBitVec = BitVec.twoPow 64 i := by decide +kernel
theorem ds_cnt : ∀ i, i < 60 → ((nI i - nI i / 60 * 60).toInt64.toUInt64 &&& Int64.toUInt64 63).toNat = i := by decide +kernel
theorem ds_read (w : Int64) {i : Nat} (hi : i < 60) : (((w.toUInt64 >>> ((nI i - nI i / 60 * 60).toInt64.toUInt64 &&& Int64.toUInt64 63)).toInt64) &&& 1).toInt32 = nI (w.toBitVec.getLsbD i).toNat := by
  have e : (w.toUInt64 >>> ((nI i - nI i / 60 * 60).toInt64.toUInt64 &&& Int64.toUInt64 63)).toInt64.toBitVec = w.toBitVec >>> i := by
    apply BitVec.eq_of_toNat_eq
    show (w.toUInt64 >>> ((nI i - nI i / 60 * 60).toInt64.toUInt64 &&& Int64.toUInt64 63)).toNat = _
    rw [UInt64.toNat_shiftRight, ds_cnt i hi, Nat.mod_eq_of_lt (by omega), BitVec.toNat_ushiftRight]
    rfl
  have e2 : (w.toUInt64 >>> ((nI i - nI i / 60 * 60).toInt64.toUInt64 &&& Int64.toUInt64 63)).toInt64 &&& 1 = if w.toBitVec.getLsbD i then 1 else 0 := by
    apply Int64.toBitVec_inj.mp
    rw [Int64.toBitVec_and, e]
    show w.toBitVec >>> i &&& 1#64 = _
    rw [BitVec.and_one_eq_setWidth_ofBool_getLsbD, BitVec.getLsbD_ushiftRight, Nat.add_zero]
    cases w.toBitVec.getLsbD i <;> rfl
  rw [e2]
  cases w.toBitVec.getLsbD i <;> rfl
theorem ds_set1 (a : Nat → Int64) {i : Nat} {x : Int64} (hi : i < 60) (hx : x.toBitVec = BitVec.twoPow 64 i) (j : Nat) (hj : j < 60) : ds_b (vp_updL a 0 (a 0 ||| x)) j = if j = i then true else ds_b a j := by
  unfold ds_b
  rw [pk_uLs, Int64.toBitVec_or, hx, BitVec.getLsbD_or, BitVec.getLsbD_twoPow]
  by_cases e : j = i
  · subst e
    simp [show j < 64 by omega]
  · simp [e, show ¬ i = j from fun z => e z.symm]
theorem ds_set0 (a : Nat → Int64) {i : Nat} {x : Int64} (hi : i < 60) (hx : x.toBitVec = BitVec.twoPow 64 i) (j : Nat) (hj : j < 60) : ds_b (vp_updL a 0 (a 0 &&& (x ^^^ (-1)))) j = if j = i then false else ds_b a j := by
  unfold ds_b
  have ha : (-1 : Int64).toBitVec = BitVec.allOnes 64 := by decide
  rw [pk_uLs, Int64.toBitVec_and, Int64.toBitVec_xor, hx, ha, BitVec.getLsbD_and, BitVec.getLsbD_xor, BitVec.getLsbD_twoPow, BitVec.getLsbD_allOnes]
  by_cases e : j = i
  · subst e
    simp [show j < 64 by omega]
  · simp [e, show ¬ i = j from fun z => e z.symm, show j < 64 by omega]
/-- three bits of the line are the symbol v, at place jj; the marker -/
def ds_S (a : Nat → Int64) (jj v : Nat) : Prop := ∀ k, k < 3 → ds_b a (8 + 3 * jj + k) = v.testBit (2 - k)
def ds_Mk (a : Nat → Int64) : Prop := ∀ k, k < 8 → ds_b a k = (178 : Nat).testBit (7 - k)
def ds_Fr (M : Nat) (a : Nat → Int64) : Prop := ds_Mk a ∧ ∀ jj, jj < 14 → ds_S a jj (ds_ww M (jj % 2) (jj / 2) ^^^ ds_scr jj)
theorem ds_3b : ∀ v, v < 8 → 2 * (2 * (2 * 0 + (v.testBit 2).toNat) + (v.testBit 1).toNat) + (v.testBit 0).toNat = v := by decide +kernel
theorem ds_xx (a b : Nat) : (a ^^^ b) ^^^ b = a := by rw [Nat.xor_assoc, Nat.xor_self, Nat.xor_zero]
end
section
section
variable {bc rc fc md : Int32} {a1 a2 a3 a5 a6 a7 a8 a9 a10 a11 : Nat → Int32} {a4 : Nat → Int64}
/-- the tables of powers and logarithms; the generator -/
def ds_T (a1 a2 : Nat → Int32) : Prop := (∀ j, j < 14 → a1 j = nI (ds_P j)) ∧ (∀ j, 0 < j → j < 8 → a2 j = nI (ds_Lg j))
def ds_G (a3 : Nat → Int32) : Prop := ∀ j, j < 5 → a3 j = nI (ds_Gk 4 j)
theorem ds_product {post : Int32 → Prop} {x y : Int32} {p q : Nat} (hT : ds_T a1 a2) (ex : x = nI p) (ey : y = nI q) (hp : p < 8) (hq : q < 8) (h : post (nI (ds_mul p q))) : wpX_product post (bc, rc, fc, md, a1, a2, a3, a4, a5, a6, a7, a8, a9, a10, a11) x y := by
  subst ex ey
  refine pk_eq p 0 (fun z => ?_) (fun z => pk_eq q 0 (fun z2 => ?_) (fun z2 => ?_))
  · rw [ds_mul_z p hp q hq (Or.inl z)] at h
    exact h
  · rw [ds_mul_z p hp q hq (Or.inr z2)] at h
    exact h
  · obtain ⟨l1, l2⟩ := ds_mul_P p hp q hq (by omega) (by omega)
    have e1 : a2 (nI p).toNatClampNeg = nI (ds_Lg p) := by rw [nI_clamp (by omega)]; exact hT.2 p (by omega) hp
    have e2 : a2 (nI q).toNatClampNeg = nI (ds_Lg q) := by rw [nI_clamp (by omega)]; exact hT.2 q (by omega) hq
    have e3 : a2 (nI p).toNatClampNeg + a2 (nI q).toNatClampNeg = nI (ds_Lg p + ds_Lg q) := by rw [e1, e2, nI_add]
    refine ⟨pk_in p 8 hp, pk_in q 8 hq, pk_in _ 14 l1 e3, ?_⟩
    rw [e3, nI_clamp (by omega), hT.1 _ l1, l2]
    exact h
theorem ds_setBit {post : St2 → Prop} {i : Nat} {x v : Int32} (hi : i < 60) (ex : x = nI i) (h : ∀ a : Nat → Int64, (∀ j, j < 60 → ds_b a j = if j = i then decide (v = 1) else ds_b a4 j) → post (bc, rc, fc, md, a1, a2, a3, a, a5, a6, a7, a8, a9, a10, a11)) : wpX_setBit post (bc, rc, fc, md, a1, a2, a3, a4, a5, a6, a7, a8, a9, a10, a11) x v := by
  subst ex
  have e0 : (nI i / 60).toNatClampNeg = 0 := by rw [ds_div0 i hi]; rfl
  have vi : vp_in (nI i / 60) 5 := pk_in 0 5 (by omega) (ds_div0 i hi)
  refine ⟨by decide, fun y ey => br_c (fun hv => ⟨by decide, vi, vi, fun a ea => h a (fun j hj => ?_)⟩) (fun hv => ⟨by decide, vi, vi, fun a ea => h a (fun j hj => ?_)⟩)⟩
  · rw [ea, e0, ds_set1 a4 hi (by rw [ey]; exact ds_msk i hi) j hj, decide_eq_true hv]
  · rw [ea, e0, ds_set0 a4 hi (by rw [ey]; exact ds_msk i hi) j hj, decide_eq_false hv]
theorem ds_bitAt {post : Int32 → Prop} {i : Nat} {x : Int32} (hi : i < 60) (ex : x = nI i) (h : post (nI (ds_b a4 i).toNat)) : wpX_bitAt post (bc, rc, fc, md, a1, a2, a3, a4, a5, a6, a7, a8, a9, a10, a11) x := by
  subst ex
  have e0 : (nI i / 60).toNatClampNeg = 0 := by rw [ds_div0 i hi]; rfl
  have vi : vp_in (nI i / 60) 5 := pk_in 0 5 (by omega) (ds_div0 i hi)
  refine ⟨by decide, vi, by decide, ?_⟩
  rw [e0, ds_read _ hi]
  exact h
theorem ds_c67 {post : St2 → Prop} {J : Int32 → (Nat → Int32) → (Nat → Int32) → (Nat → Int32) → (Nat → Int64) → (Nat → Int32) → (Nat → Int32) → (Nat → Int32) → (Nat → Int32) → (Nat → Int32) → (Nat → Int32) → (Nat → Int32) → Prop} {x1 x2 x3 : Int32} {b : Nat} {r : Nat → Nat} (hT : ds_T a1 a2) (hG : ds_G a3) (hb : b < 8) (hr : ∀ j, j < 4 → r j < 8) (h6 : ∀ j, j < 4 → a6 j = nI (r j))
    (H : ∀ a : Nat → Int32, (∀ j, j < 4 → a j = nI (ds_st b r j)) → (∀ j, 4 ≤ j → a j = a6 j) → J (x3 + (-1)) a1 a2 a3 a4 a5 a a7 a8 a9 a10 a11) : ∃ n, wX_code_67 post J x1 x2 x3 (nI b) bc rc fc md n 3 a1 a2 a3 a4 a5 a6 a7 a8 a9 a10 a11 := by
  refine ⟨4, pk_loopD (fun n i s => wX_code_67 post J x1 x2 x3 (nI b) bc rc fc md n (nI i) a1 a2 a3 a4 a5 s a7 a8 a9 a10 a11) (fun i s => i < 4 ∧ (∀ j, j < 4 → s j = nI (if i < j then ds_st b r j else r j)) ∧ (∀ j, 4 ≤ j → s j = a6 j)) ?_ ?_ 3 a6 ⟨by decide, fun j hj => by rw [if_neg (by omega)]; exact h6 j hj, fun _ _ => rfl⟩⟩
  · intro n s ⟨_, hs, hh⟩
    refine pk_le 0 0 (fun _ => ?_) (fun z => absurd z (by omega))
    refine ds_product hT rfl (hG 0 (by decide)) hb (ds_Gk_lt 4 (by decide) 0 (by decide)) ?_
    intro a ea x ex
    rw [ds_i8 _ (ds_mul_lt _ _)] at ea
    subst ea ex
    refine H _ (fun j hj => ?_) (fun j hj => ?_)
    · by_cases e : j = 0
      · subst e
        rw [pk_us]
        rfl
      · rw [pk_un e, hs j hj, if_pos (by omega)]
    · rw [pk_un (by omega)]
      exact hh j hj
  · intro n i s ⟨hi, hs, hh⟩ hw
    refine pk_le (i + 1) 0 (fun z => absurd z (by omega)) (fun _ => ⟨pk_in (i + 1) 5 (by omega), ?_⟩)
    have e1 : a3 (nI (i + 1)).toNatClampNeg = nI (ds_Gk 4 (i + 1)) := by rw [nI_clamp (by omega)]; exact hG _ (by omega)
    have e2 : nI (i + 1) - 1 = nI i := nI_pred i
    refine ds_product hT rfl e1 hb (ds_Gk_lt 4 (by decide) _ (by omega)) ⟨pk_in i 7 (by omega) e2, pk_in (i + 1) 7 (by omega), ?_⟩
    intro a ea x ex
    rw [e2, nI_clamp (by omega), nI_clamp (by omega), hs i (by omega), if_neg (by omega), ds_xor, ds_i8 _ (ds_xor_lt (hr _ (by omega)) (ds_mul_lt _ _))] at ea
    rw [pk_m1] at ex
    subst ea ex
    refine hw _ ⟨by omega, fun j hj => ?_, fun j hj => ?_⟩
    · by_cases e : j = i + 1
      · subst e
        rw [pk_us, if_pos (by omega)]
        rfl
      · rw [pk_un e, hs j hj]
        by_cases c : i + 1 < j
        · rw [if_pos c, if_pos (by omega)]
        · rw [if_neg c, if_neg (by omega)]
    · rw [pk_un (by omega)]
      exact hh j hj
theorem ds_c22 {post : St2 → Prop} {M m h n : Nat} {r : Nat → Nat} (hT : ds_T a1 a2) (hG : ds_G a3) (hM : M < 2 ^ 18) (hm : m < 3) (hh : h < 2) (hr : ∀ j, j < 4 → r j < 8) (h6 : ∀ j, j < 4 → a6 j = nI (r j))
    (H : ∀ a : Nat → Int32, (∀ j, j < 4 → a j = nI (ds_rg (ds_sy M m h) r j)) → a (4 + m) = nI (ds_sy M m h) → (∀ j, 4 ≤ j → j ≠ 4 + m → a j = a6 j) → wX_code_22 post (nI M) (nI h) bc rc fc md n (nI m + (-1)) a1 a2 a3 a4 a5 a a7 a8 a9 a10 a11) :
    wX_code_22 post (nI M) (nI h) bc rc fc md (n + 1) (nI m) a1 a2 a3 a4 a5 a6 a7 a8 a9 a10 a11 := by
  refine pk_lt m 0 (fun z => absurd z (by omega)) (fun _ => ?_)
  intro x4 e4
  rw [ds_syI hM hm hh] at e4
  subst e4
  have e5 : 4 + nI m = nI (4 + m) := nI_add 4 m
  refine ⟨pk_in (4 + m) 7 (by omega) e5, ?_⟩
  intro a ea x5 ex
  rw [e5, nI_clamp (by omega), ds_i8 _ (ds_sy_lt _ _ _)] at ea
  subst ea
  rw [pk_un (by omega), h6 3 (by omega), ds_xor] at ex
  subst ex
  refine ds_c67 hT hG (ds_xor_lt (ds_sy_lt _ _ _) (hr 3 (by omega))) hr (fun j hj => by rw [pk_un (by omega)]; exact h6 j hj) (fun a ha hk => H a ha ?_ (fun j h1 h2 => ?_))
  · rw [hk _ (by omega), pk_us]
  · rw [hk j h1, pk_un h2]
theorem ds_code {post : St2 → Prop} {M h : Nat} (hT : ds_T a1 a2) (hG : ds_G a3) (hM : M < 2 ^ 18) (hh : h < 2) (H : ∀ a : Nat → Int32, (∀ j, j < 7 → a j = nI (ds_ww M h j)) → post (bc, rc, fc, md, a1, a2, a3, a4, a5, a, a7, a8, a9, a10, a11)) : wpX_code post (bc, rc, fc, md, a1, a2, a3, a4, a5, a6, a7, a8, a9, a10, a11) (nI M) (nI h) := by
  refine pk_loop (fun n i s => wX_code_2 post (nI M) (nI h) bc rc fc md n (nI i) a1 a2 a3 a4 a5 s a7 a8 a9 a10 a11) (fun i s => ∀ j, j < i → s j = nI 0) 4 0 a6 (by omega) (fun j hj => absurd hj (by omega)) ?_ ?_
  · intro n s hs
    refine pk_le 4 4 (fun _ => ⟨4, ?_⟩) (fun z => absurd z (by omega))
    have z0 : ∀ j, j < 4 → (fun _ => 0 : Nat → Nat) j < 8 := fun _ _ => by show 0 < 8; decide
    refine ds_c22 (m := 2) (r := fun _ => 0) hT hG hM (by decide) hh z0 hs (fun b hb b6 bk => ?_)
    rw [show nI 2 + (-1) = nI 1 from pk_m1 1]
    refine ds_c22 (m := 1) hT hG hM (by decide) hh (ds_st_lt z0) hb (fun c hc c5 ck => ?_)
    rw [show nI 1 + (-1) = nI 0 from pk_m1 0]
    refine ds_c22 (m := 0) hT hG hM (by decide) hh (ds_st_lt (ds_st_lt z0)) hc (fun d hd d4 dk => ?_)
    refine br_t (by decide) (H d (fun j hj => ?_))
    rcases Nat.lt_or_ge j 4 with c | c
    · rw [hd j c]
      unfold ds_ww ds_wd
      rw [if_pos c]
      rfl
    · rcases (by omega : j = 4 ∨ j = 5 ∨ j = 6) with e | e | e
      · subst e
        exact d4
      · subst e
        rw [dk 5 (by decide) (by decide)]
        exact c5
      · subst e
        rw [dk 6 (by decide) (by decide), ck 6 (by decide) (by decide)]
        exact b6
  · intro n i s hi hs hw
    refine pk_le 4 i (fun z => absurd z (by omega)) (fun _ => ⟨pk_in i 7 (by omega), ?_⟩)
    intro a ea x ex
    rw [nI_clamp (by omega)] at ea
    rw [nI_1] at ex
    subst ea ex
    refine hw _ (fun j hj => ?_)
    by_cases e : j = i
    · subst e
      rw [pk_us]
      rfl
    · rw [pk_un e]
      exact hs j (by omega)
theorem ds_put {post : St2 → Prop} {jj v : Nat} {x y : Int32} (hj : jj < 14) (ex : x = nI jj) (hv : v < 8) (ey : y = nI v) (H : ∀ a : Nat → Int64, ds_S a jj (v ^^^ ds_scr jj) → (∀ p, p < 60 → (p < 8 + 3 * jj ∨ 8 + 3 * jj + 3 ≤ p) → ds_b a p = ds_b a4 p) → post (bc, rc, fc, md, a1, a2, a3, a, a5, a6, a7, a8, a9, a10, a11)) :
    wpX_putSymbol post (bc, rc, fc, md, a1, a2, a3, a4, a5, a6, a7, a8, a9, a10, a11) 0 x y := by
  subst ex ey
  unfold wpX_putSymbol
  dsimp only
  unfold wpX_scramble
  dsimp only
  intro x ex
  rw [ds_scrI jj hj, ds_xor] at ex
  subst ex
  refine pk_loop (fun n i s => wX_putSymbol_12 post 0 (nI jj) (nI (v ^^^ ds_scr jj)) n (nI i) bc rc fc md a1 a2 a3 s a5 a6 a7 a8 a9 a10 a11) (fun i s => (∀ k, k < i → ds_b s (8 + 3 * jj + k) = (v ^^^ ds_scr jj).testBit (2 - k)) ∧ (∀ p, p < 60 → (p < 8 + 3 * jj ∨ 8 + 3 * jj + 3 ≤ p) → ds_b s p = ds_b a4 p)) 3 0 a4 (by omega) ⟨fun k hk => absurd hk (by omega), fun _ _ _ => rfl⟩ ?_ ?_
  · intro n s ⟨h1, h2⟩
    exact pk_le 3 3 (fun _ => H s h1 h2) (fun z => absurd z (by omega))
  · intro n i s hi ⟨h1, h2⟩ hw
    refine pk_le 3 i (fun z => absurd z (by omega)) (fun _ => ?_)
    have e : ((0 + 8) + (3 * nI jj)) + nI i = nI (8 + 3 * jj + i) := by
      rw [show (3 : Int32) = nI 3 from rfl, pk_mul, show (0 : Int32) + 8 = nI 8 by decide, nI_add, nI_add]
    refine ds_setBit (i := 8 + 3 * jj + i) (by omega) e (fun a ha => nm_r (nI_1 i) (hw a ⟨fun k hk => ?_, fun p hp hq => ?_⟩))
    · by_cases ek : k = i
      · subst ek
        rw [ha _ (by omega), if_pos rfl, ds_bitI _ (ds_xor_lt hv (ds_scr_lt _)) _ hi]
      · rw [ha _ (by omega), if_neg (by omega)]
        exact h1 k (by omega)
    · rw [ha p hp, if_neg (by omega)]
      exact h2 p hp hq
def ds_V (M jj : Nat) : Nat := ds_ww M (jj % 2) (jj / 2) ^^^ ds_scr jj
theorem ds_s91 {post : Int32 → St2 → Prop} {J : Int32 → Int32 → Int32 → Int32 → Int32 → (Nat → Int32) → (Nat → Int32) → (Nat → Int32) → (Nat → Int64) → (Nat → Int32) → (Nat → Int32) → (Nat → Int32) → (Nat → Int32) → (Nat → Int32) → (Nat → Int32) → (Nat → Int32) → Prop} {x1 : Int32} {M h : Nat} (hh : h < 2) (h6 : ∀ j, j < 7 → a6 j = nI (ds_ww M h j)) (hK : ds_Mk a4) (hS : ∀ jj, jj < 14 → jj % 2 < h → ds_S a4 jj (ds_V M jj))
    (H : ∀ a : Nat → Int64, ds_Mk a → (∀ jj, jj < 14 → jj % 2 < h + 1 → ds_S a jj (ds_V M jj)) → J (nI (h + 1)) bc rc fc md a1 a2 a3 a a5 a6 a7 a8 a9 a10 a11) : ∃ n, wX_send_91 post J x1 0 (nI h) n 0 bc rc fc md a1 a2 a3 a4 a5 a6 a7 a8 a9 a10 a11 := by
  refine pk_loop (fun n i s => wX_send_91 post J x1 0 (nI h) n (nI i) bc rc fc md a1 a2 a3 s a5 a6 a7 a8 a9 a10 a11) (fun i s => ds_Mk s ∧ ∀ jj, jj < 14 → (jj % 2 < h ∨ (jj % 2 = h ∧ jj / 2 < i)) → ds_S s jj (ds_V M jj)) 7 0 a4 (by omega) ⟨hK, fun jj hj hc => hS jj hj (by omega)⟩ ?_ ?_
  · intro n s ⟨h1, h2⟩
    exact pk_le 7 7 (fun _ => nm_r (nI_1 h) (H s h1 (fun jj hj hc => h2 jj hj (by omega)))) (fun z => absurd z (by omega))
  · intro n i s hi ⟨h1, h2⟩ hw
    refine pk_le 7 i (fun z => absurd z (by omega)) (fun _ => ⟨pk_in i 7 hi, ?_⟩)
    have e : (2 * nI i) + nI h = nI (2 * i + h) := by rw [show (2 : Int32) = nI 2 from rfl, pk_mul, nI_add]
    refine ds_put (jj := 2 * i + h) (by omega) e (ds_ww_lt M h i) (by rw [nI_clamp (by omega)]; exact h6 i hi) (fun a ha hk => nm_r (nI_1 i) (hw a ⟨?_, ?_⟩))
    · intro k hk'
      rw [hk k (by omega) (by omega)]
      exact h1 k hk'
    · intro jj hj hc
      by_cases ej : jj = 2 * i + h
      · subst ej
        have e1 : (2 * i + h) % 2 = h := by omega
        have e2 : (2 * i + h) / 2 = i := by omega
        unfold ds_V
        rw [e1, e2]
        exact ha
      · intro k hk3
        rw [hk _ (by omega) (by omega)]
        exact h2 jj hj (by omega) k hk3
theorem ds_s77 {post : Int32 → St2 → Prop} {M : Nat} (hT : ds_T a1 a2) (hG : ds_G a3) (hM : M < 2 ^ 18) (hK : ds_Mk a4) (H : ∀ (a : Nat → Int64) (b : Nat → Int32), ds_Fr M a → post bc (bc, 0, fc, md, a1, a2, a3, a, a5, b, a7, a8, a9, a10, a11)) : ∃ n, wX_send_77 post (nI M) 0 n 0 bc rc fc md a1 a2 a3 a4 a5 a6 a7 a8 a9 a10 a11 := by
  refine pk_loop (σ := (Nat → Int64) × (Nat → Int32)) (fun n i s => wX_send_77 post (nI M) 0 n (nI i) bc rc fc md a1 a2 a3 s.1 a5 s.2 a7 a8 a9 a10 a11) (fun i s => ds_Mk s.1 ∧ ∀ jj, jj < 14 → jj % 2 < i → ds_S s.1 jj (ds_V M jj)) 2 0 (a4, a6) (by omega) ⟨hK, fun jj hj hc => absurd hc (by omega)⟩ ?_ ?_
  · intro n s ⟨h1, h2⟩
    exact pk_le 2 2 (fun _ => H s.1 s.2 ⟨h1, fun jj hj => h2 jj hj (by omega)⟩) (fun z => absurd z (by omega))
  · intro n i s hi ⟨h1, h2⟩ hw
    exact pk_le 2 i (fun z => absurd z (by omega)) (fun _ => ds_code hT hG hM hi (fun a ha => ds_s91 hi ha h1 h2 (fun b hb hb2 => hw (b, a) ⟨hb, hb2⟩)))
theorem ds_s46 {post : Int32 → St2 → Prop} {M : Nat} (hT : ds_T a1 a2) (hG : ds_G a3) (hM : M < 2 ^ 18) (H : ∀ (a : Nat → Int64) (b : Nat → Int32), ds_Fr M a → post bc (bc, 0, fc, md, a1, a2, a3, a, a5, b, a7, a8, a9, a10, a11)) : ∃ n, wX_send_46 post (nI M) 0 n 0 bc rc fc md a1 a2 a3 a4 a5 a6 a7 a8 a9 a10 a11 := by
  refine pk_loop (fun n i s => wX_send_46 post (nI M) 0 n (nI i) bc rc fc md a1 a2 a3 s a5 a6 a7 a8 a9 a10 a11) (fun i s => ∀ k, k < i → ds_b s k = (178 : Nat).testBit (7 - k)) 8 0 a4 (by omega) (fun k hk => absurd hk (by omega)) ?_ ?_
  · intro n s hs
    exact pk_le 8 8 (fun _ => ds_s77 hT hG hM hs H) (fun z => absurd z (by omega))
  · intro n i s hi hs hw
    refine pk_le 8 i (fun z => absurd z (by omega)) (fun _ => ds_setBit (i := i) (by omega) (Int32.zero_add _) (fun a ha => nm_r (nI_1 i) (hw a (fun k hk => ?_))))
    by_cases ek : k = i
    · subst ek
      rw [ha _ (by omega), if_pos rfl, ds_markI _ hi]
    · rw [ha _ (by omega), if_neg ek]
      exact hs k (by omega)
theorem ds_send {post : Int32 → St2 → Prop} {M : Nat} (hT : ds_T a1 a2) (hG : ds_G a3) (hM : M < 2 ^ 18) (H : ∀ (a : Nat → Int64) (b : Nat → Int32), ds_Fr M a → post 50 (50, 0, fc, md, a1, a2, a3, a, a5, b, a7, a8, a9, a10, a11)) : wpX_send post (0, rc, fc, md, a1, a2, a3, a4, a5, a6, a7, a8, a9, a10, a11) (nI M) :=
  pk_lt M 0 (fun z => absurd z (by omega)) (fun _ => pk_le M 262143 (fun _ => br_t (by decide) (nm_r (show (0 : Int32) + 50 = 50 by decide) (ds_s46 hT hG hM H))) (fun z => absurd z (by omega)))
theorem ds_send_no {post : Int32 → St2 → Prop} {x : Int32} (hx : x < 0 ∨ 262143 < x) (H : post (-1) (bc, rc, fc, md, a1, a2, a3, a4, a5, a6, a7, a8, a9, a10, a11)) : wpX_send post (bc, rc, fc, md, a1, a2, a3, a4, a5, a6, a7, a8, a9, a10, a11) x :=
  br_c (fun _ => H) (fun h0 => br_f (fun z => hx.elim h0 (fun z2 => absurd (Int32.lt_iff_toInt_lt.mp z2) (by have := Int32.le_iff_toInt_le.mp z; omega))) H)
theorem ds_isBit_y {post : Int32 → Prop} {i c : Nat} (hi : i < c) (hc : c ≤ 50) (H : post 1) : wpX_isBit post ((nI c), rc, fc, md, a1, a2, a3, a4, a5, a6, a7, a8, a9, a10, a11) (nI i) :=
  pk_lt i 0 (fun z => absurd z (by omega)) (fun _ => pk_le c i (fun z => absurd z (by omega)) (fun _ => H))
theorem ds_isBit_n {post : Int32 → Prop} {x : Int32} (hx : x < 0 ∨ bc ≤ x) (H : post 0) : wpX_isBit post (bc, rc, fc, md, a1, a2, a3, a4, a5, a6, a7, a8, a9, a10, a11) x :=
  br_c (fun _ => H) (fun h0 => br_t (hx.elim (fun z => absurd z h0) id) H)
theorem ds_bit_y {post : Int32 → Prop} {i c : Nat} (hi : i < c) (hc : c ≤ 50) (H : post (nI (ds_b a4 i).toNat)) : wpX_bit post ((nI c), rc, fc, md, a1, a2, a3, a4, a5, a6, a7, a8, a9, a10, a11) (nI i) := by
  unfold wpX_bit
  dsimp only
  exact ds_isBit_y hi hc (br_f (by decide) (ds_bitAt (by omega) rfl H))
theorem ds_bit_n {post : Int32 → Prop} {x : Int32} (hx : x < 0 ∨ bc ≤ x) (H : post (-1)) : wpX_bit post (bc, rc, fc, md, a1, a2, a3, a4, a5, a6, a7, a8, a9, a10, a11) x := by
  unfold wpX_bit
  dsimp only
  exact ds_isBit_n hx (br_t rfl H)
end
end
section
section
variable {bc rc fc md : Int32} {a1 a2 a3 a5 a6 a7 a8 a9 a10 a11 : Nat → Int32} {a4 : Nat → Int64}
theorem ds_win : ∀ i, i < 8 → ((nI (178 >>> (8 - i)) <<< ((1 : Int32) &&& (31 : Int32)) : Int32) &&& (255 : Int32)) ||| nI ((178 : Nat).testBit (7 - i)).toNat = nI (178 >>> (8 - (i + 1))) := by decide +kernel
/-- the eighth bit: the marker is seen, the frame is taken -/
theorem ds_r76 {post : St2 → Prop} {J : Int32 → Int32 → Int32 → Int32 → Int32 → (Nat → Int32) → (Nat → Int32) → (Nat → Int32) → (Nat → Int64) → (Nat → Int32) → (Nat → Int32) → (Nat → Int32) → (Nat → Int32) → (Nat → Int32) → (Nat → Int32) → (Nat → Int32) → Prop} (H : ∀ a : Nat → Int32, a 0 = nI 0 → J (nI 178) 50 0 (nI 8) 1 a1 a2 a3 a4 a a6 a7 a8 a9 a10 a11) : wX_receive_76 post J (nI 178) (-1) 0 (nI 7) (nI 0) 50 rc 0 md a1 a2 a3 a4 a5 a6 a7 a8 a9 a10 a11 := by
  unfold wX_receive_76 wpX_isSight
  dsimp only
  intro x ex
  rw [show nI 178 ^^^ 178 = 0 by decide] at ex
  subst ex
  refine br_t (by decide) (br_f (by decide) ?_)
  unfold wX_receive_92
  refine br_t (by decide) ?_
  unfold wX_receive_117
  refine br_f (by decide) ?_
  unfold wX_receive_131
  refine ⟨pk_in 0 6 (by decide), ?_⟩
  intro a ea f ef
  refine br_f (by decide) ?_
  unfold wX_receive_163
  intro y ey z ez
  rw [show (0 : Int32) + 1 = 1 by decide] at ef
  rw [show nI 0 + 50 = 50 by decide] at ey
  rw [show nI 7 + 1 = nI 8 by decide] at ez
  subst ef ey ez
  refine H a ?_
  rw [ea]
  rfl
theorem ds_recv {post : St2 → Prop} (hK : ds_Mk a4) (H : ∀ a : Nat → Int32, a 0 = nI 0 → post (50, 1, 1, md, a1, a2, a3, a4, a, a6, a7, a8, a9, a10, a11)) : wpX_receive post (50, 0, fc, md, a1, a2, a3, a4, a5, a6, a7, a8, a9, a10, a11) := by
  refine br_t rfl ?_
  refine pk_loop (σ := Int32 × Int32 × Int32 × (Nat → Int32)) (fun n i s => wX_receive_27 post 50 1 md n s.1 s.2.1 0 (nI i) s.2.2.1 a1 a2 a3 a4 s.2.2.2 a6 a7 a8 a9 a10 a11)
    (fun i s => (i ≤ 7 ∧ s.1 = nI (178 >>> (8 - i)) ∧ s.2.1 = -1 ∧ s.2.2.1 = 0) ∨ (7 < i ∧ s.2.1 = 50 ∧ s.2.2.1 = 1 ∧ s.2.2.2 0 = nI 0)) 50 0 (0, -1, 0, a5) (by omega) (Or.inl ⟨by decide, (by show (0 : Int32) = nI (178 >>> (8 - 0)); decide), rfl, rfl⟩) ?_ ?_
  · intro n ⟨w, x, f, a⟩ h
    dsimp only at h ⊢
    rcases h with ⟨h, _⟩ | ⟨_, e2, e3, e4⟩
    · exact absurd h (by omega)
    · subst e2 e3
      exact pk_le 50 50 (fun _ => H a e4) (fun z => absurd z (by omega))
  · intro n i ⟨w, x, f, a⟩ hi h hw
    dsimp only at h hw ⊢
    refine pk_le 50 i (fun z => absurd z (by omega)) (fun _ => ds_bitAt (i := i) (by omega) rfl ?_)
    intro w' ew x5 e5
    rcases h with ⟨h, e1, e2, e3⟩ | ⟨h, e2, e3, e4⟩
    · rw [e1, hK i (by omega), ds_win i (by omega)] at ew
      subst e2 e3 ew
      by_cases c : i = 7
      · subst c
        rw [show nI 7 - 7 = nI 0 by decide] at e5
        subst e5
        refine br_f (by decide) (br_t (by decide) (ds_r76 (fun b hb => ?_)))
        exact hw (nI 178, 50, 1, b) (Or.inr ⟨by decide, rfl, rfl, hb⟩)
      · refine br_t ?_ (nm_r (nI_1 i) (hw (nI (178 >>> (8 - (i + 1))), -1, 0, a) (Or.inl ⟨by omega, rfl, rfl, rfl⟩)))
        rw [e5]
        exact pk_sneg (b := 7) (by decide) (by omega)
    · have e6 : nI i - 7 = nI (i - 7) := pk_sub (b := 7) (by omega)
      rw [e6] at e5
      subst e2 e3 e5
      refine pk_lt (i - 7) 0 (fun z => absurd z (by omega)) (fun _ => br_f (by decide) (pk_le 50 (i - 7) (fun z => absurd z (by omega)) (fun _ => nm_r (nI_1 i) (hw (w', 50, 1, a) (Or.inr ⟨by omega, rfl, rfl, e4⟩)))))
theorem ds_recv0 {post : St2 → Prop} (H : post (0, 1, 0, md, a1, a2, a3, a4, a5, a6, a7, a8, a9, a10, a11)) : wpX_receive post (0, 0, fc, md, a1, a2, a3, a4, a5, a6, a7, a8, a9, a10, a11) :=
  br_t rfl ⟨1, pk_le 0 0 (fun _ => H) (fun z => absurd z (by omega))⟩
theorem ds_recv1 {post : St2 → Prop} (H : post (bc, 1, fc, md, a1, a2, a3, a4, a5, a6, a7, a8, a9, a10, a11)) : wpX_receive post (bc, 1, fc, md, a1, a2, a3, a4, a5, a6, a7, a8, a9, a10, a11) := br_f (by decide) H
/-! a symbol of the line -/
theorem ds_sa {post : Int32 → Prop} {jj k acc n : Nat} (hj : jj < 14) (hk : k < 3) (h : wX_symbolAt_5 post 0 (nI jj) bc rc fc md a1 a2 a3 a4 a5 a6 a7 a8 a9 a10 a11 n (nI (2 * acc + (ds_b a4 (8 + 3 * jj + k)).toNat)) (nI (k + 1))) : wX_symbolAt_5 post 0 (nI jj) bc rc fc md a1 a2 a3 a4 a5 a6 a7 a8 a9 a10 a11 (n + 1) (nI acc) (nI k) := by
  refine pk_le 3 k (fun z => absurd z (by omega)) (fun _ => ?_)
  have e : ((0 + 8) + (3 * nI jj)) + nI k = nI (8 + 3 * jj + k) := by
    rw [show (3 : Int32) = nI 3 from rfl, pk_mul, show (0 : Int32) + 8 = nI 8 by decide, nI_add, nI_add]
  refine ds_bitAt (i := 8 + 3 * jj + k) (by omega) e (nm_r ?_ (nm_r (nI_1 k) h))
  rw [show (2 : Int32) = nI 2 from rfl, pk_mul, nI_add]
theorem ds_symAt {post : Int32 → Prop} {jj v : Nat} {x : Int32} (hj : jj < 14) (ex : x = nI jj) (hv : v < 8) (hS : ds_S a4 jj v) (H : post (nI (v ^^^ ds_scr jj))) : wpX_symbolAt post (bc, rc, fc, md, a1, a2, a3, a4, a5, a6, a7, a8, a9, a10, a11) 0 x := by
  subst ex
  refine ⟨4, ds_sa (k := 0) (acc := 0) hj (by decide) (ds_sa hj (by decide) (ds_sa hj (by decide) ?_))⟩
  rw [hS 0 (by decide), hS 1 (by decide), hS 2 (by decide), ds_3b v hv]
  refine pk_le 3 3 (fun _ => ?_) (fun z => absurd z (by omega))
  unfold wpX_scramble
  dsimp only
  rw [ds_scrI jj hj, ds_xor]
  exact H
/-! the four sums -/
theorem ds_s15 {post : Int32 → St2 → Prop} {J : Int32 → Int32 → (Nat → Int32) → (Nat → Int32) → (Nat → Int32) → (Nat → Int64) → (Nat → Int32) → (Nat → Int32) → (Nat → Int32) → (Nat → Int32) → (Nat → Int32) → (Nat → Int32) → (Nat → Int32) → Prop} {w : Nat → Nat} {k : Nat} (hT : ds_T a1 a2) (hw : ∀ j, j < 7 → w j < 8) (h6 : ∀ j, j < 7 → a6 j = nI (w j)) (hk : k < 5) (hk0 : 0 < k) (h0 : ds_hor k w 7 = 0)
    (H : ∀ b : Nat → Int32, J 1 (nI (k + 1)) a1 a2 a3 a4 a5 a6 b a8 a9 a10 a11) : ∃ n, wX_sumsAreZero_15 post J 1 (nI k) bc rc fc md a1 a2 a3 a4 a5 a6 a7 a8 a9 a10 a11 n 0 6 := by
  refine ⟨8, ek_v (P := fun z => wX_sumsAreZero_15 post J 1 (nI k) bc rc fc md a1 a2 a3 a4 a5 a6 a7 a8 a9 a10 a11 8 0 z) (show (6 : Int32) = nI 7 + (-1) by decide) (pk_loopD (fun n i s => wX_sumsAreZero_15 post J 1 (nI k) bc rc fc md a1 a2 a3 a4 a5 a6 a7 a8 a9 a10 a11 n s (nI i + (-1))) (fun i s => i ≤ 7 ∧ s = nI (ds_hor k w (7 - i))) ?_ ?_ 7 (nI 0) ⟨by decide, rfl⟩)⟩
  · intro n s ⟨_, hs⟩
    refine br_t (by decide) ?_
    obtain ⟨k', rfl⟩ : ∃ k', k = k' + 1 := ⟨k - 1, by omega⟩
    refine ⟨pk_in k' 4 (by omega) (nI_pred k'), fun a ea => br_t ?_ (nm_r (nI_1 _) (H a))⟩
    rw [hs]
    show nI (ds_hor (k' + 1) w 7) = 0
    rw [h0]
    rfl
  · intro n i s ⟨hi, hs⟩ hq
    show wX_sumsAreZero_15 post J 1 (nI k) bc rc fc md a1 a2 a3 a4 a5 a6 a7 a8 a9 a10 a11 (n + 1) s (nI (i + 1) + (-1))
    rw [pk_m1]
    refine pk_lt i 0 (fun z => absurd z (by omega)) (fun _ => ⟨pk_in k 14 (by omega), ?_⟩)
    have e1 : a1 (nI k).toNatClampNeg = nI (ds_P k) := by rw [nI_clamp (by omega)]; exact hT.1 k (by omega)
    refine ds_product hT hs e1 (ds_hor_lt hw _) (ds_P_lt k (by omega)) ⟨pk_in i 7 (by omega), nm_r (e' := nI (ds_hor k w (7 - i))) ?_ (nm_e (hq _ ⟨by omega, rfl⟩))⟩
    rw [nI_clamp (by omega), h6 i (by omega), ds_xor, show 7 - i = 7 - (i + 1) + 1 by omega]
    show _ = nI (ds_mul (ds_hor k w (7 - (i + 1))) (ds_P k) ^^^ w (6 - (7 - (i + 1))))
    rw [show 6 - (7 - (i + 1)) = i by omega]
theorem ds_sums {post : Int32 → St2 → Prop} {w : Nat → Nat} (hT : ds_T a1 a2) (hw : ∀ j, j < 7 → w j < 8) (h6 : ∀ j, j < 7 → a6 j = nI (w j)) (h0 : ∀ k, k < 5 → 0 < k → ds_hor k w 7 = 0)
    (H : ∀ b : Nat → Int32, post 1 (bc, rc, fc, md, a1, a2, a3, a4, a5, a6, b, a8, a9, a10, a11)) : wpX_sumsAreZero post (bc, rc, fc, md, a1, a2, a3, a4, a5, a6, a7, a8, a9, a10, a11) := by
  refine pk_loop (fun n i s => wX_sumsAreZero_4 post bc rc fc md n 1 (nI i) a1 a2 a3 a4 a5 a6 s a8 a9 a10 a11) (fun i _ => 0 < i) 5 1 a7 (by omega) (by decide) ?_ ?_
  · intro n s _
    exact pk_lt 4 5 (fun _ => ⟨rfl, H s⟩) (fun z => absurd z (by omega))
  · intro n i s hi hi0 hq
    exact pk_lt 4 i (fun z => absurd z (by omega)) (fun _ => ds_s15 hT hw h6 hi hi0 (h0 i hi hi0) (fun b => hq b (by omega)))
theorem ds_mend {post : Int32 → St2 → Prop} {M h : Nat} {x : Int32} (hh : h < 2) (hT : ds_T a1 a2) (hF : ds_Fr M a4) (ex : x = 0) (H : ∀ a b : Nat → Int32, (∀ j, j < 7 → a j = nI (ds_ww M h j)) → post 1 (bc, rc, fc, 0, a1, a2, a3, a4, a5, a, b, a8, a9, a10, a11)) : wpX_mendWord post (bc, rc, fc, md, a1, a2, a3, a4, a5, a6, a7, a8, a9, a10, a11) x (nI h) := by
  subst ex
  refine pk_loop (fun n i s => wX_mendWord_2 post 0 (nI h) bc rc fc md n (nI i) a1 a2 a3 a4 a5 s a7 a8 a9 a10 a11) (fun i s => ∀ j, j < i → s j = nI (ds_ww M h j)) 7 0 a6 (by omega) (fun j hj => absurd hj (by omega)) ?_ ?_
  · intro n s hs
    exact pk_le 7 7 (fun _ => ds_sums hT (fun j _ => ds_ww_lt M h j) hs (fun k hk h0 => ds_ww_sum M h hk h0) (fun b => br_f (by decide) (H s b hs))) (fun z => absurd z (by omega))
  · intro n i s hi hs hw
    refine pk_le 7 i (fun z => absurd z (by omega)) (fun _ => ?_)
    have e : (2 * nI i) + nI h = nI (2 * i + h) := by rw [show (2 : Int32) = nI 2 from rfl, pk_mul, nI_add]
    have eV : ds_ww M ((2 * i + h) % 2) ((2 * i + h) / 2) = ds_ww M h i := by rw [show (2 * i + h) % 2 = h by omega, show (2 * i + h) / 2 = i by omega]
    have hS := hF.2 (2 * i + h) (by omega)
    rw [eV] at hS
    refine ds_symAt (jj := 2 * i + h) (by omega) e (ds_xor_lt (ds_ww_lt M h i) (ds_scr_lt _)) hS ⟨pk_in i 7 hi, ?_⟩
    rw [ds_xx]
    intro a ea y ey
    rw [nI_clamp (by omega), ds_i8 _ (ds_ww_lt M h i)] at ea
    rw [nI_1] at ey
    subst ea ey
    refine hw _ (fun j hj => ?_)
    by_cases c : j = i
    · subst c
      rw [pk_us]
    · rw [pk_un c]
      exact hs j (by omega)
/-! message -/
theorem ds_m47 {post : Int32 → St2 → Prop} {J : Int32 → Int32 → Int32 → Int32 → Int32 → Int32 → (Nat → Int32) → (Nat → Int32) → (Nat → Int32) → (Nat → Int64) → (Nat → Int32) → (Nat → Int32) → (Nat → Int32) → (Nat → Int32) → (Nat → Int32) → (Nat → Int32) → (Nat → Int32) → Prop} {x1 : Int32} {M h acc : Nat} (hh : h < 2) (h6 : ∀ j, j < 7 → a6 j = nI (ds_ww M h j)) (H : J (nI (ds_acc M h acc 3)) (nI (h + 1)) bc rc fc md a1 a2 a3 a4 a5 a6 a7 a8 a9 a10 a11) : ∃ n, wX_message_47 post J x1 (nI h) bc rc fc md a1 a2 a3 a4 a5 a6 a7 a8 a9 a10 a11 n (nI acc) 0 := by
  refine pk_loop (σ := Int32) (fun n i s => wX_message_47 post J x1 (nI h) bc rc fc md a1 a2 a3 a4 a5 a6 a7 a8 a9 a10 a11 n s (nI i)) (fun i s => s = nI (ds_acc M h acc i)) 3 0 (nI acc) (by omega) rfl ?_ ?_
  · intro n s hs
    subst hs
    exact pk_le 3 3 (fun _ => nm_r (nI_1 h) H) (fun z => absurd z (by omega))
  · intro n i s hi hs hw
    have e5 : 4 + nI i = nI (4 + i) := nI_add 4 i
    refine pk_le 3 i (fun z => absurd z (by omega)) (fun _ => ⟨pk_in (4 + i) 7 (by omega) e5, nm_e (nm_r (nI_1 i) (hw _ ?_))⟩)
    rw [e5, nI_clamp (by omega), h6 _ (by omega), ds_ww_hi M h i hi, ds_shlI (ds_sy_lt _ _ _) hi hh, hs, ds_or]
    rfl
theorem ds_m22 {post : Int32 → St2 → Prop} {M h acc n : Nat} (hh : h < 2) (hT : ds_T a1 a2) (hF : ds_Fr M a4) (h5 : a5 0 = nI 0) (H : ∀ a b : Nat → Int32, wX_message_22 post 0 n (nI (ds_acc M h acc 3)) (nI (h + 1)) bc rc fc 0 a1 a2 a3 a4 a5 a b a8 a9 a10 a11) : wX_message_22 post 0 (n + 1) (nI acc) (nI h) bc rc fc md a1 a2 a3 a4 a5 a6 a7 a8 a9 a10 a11 :=
  pk_le 2 h (fun z => absurd z (by omega)) (fun _ => ⟨pk_in 0 6 (by decide), ds_mend hh hT hF h5 (fun a b ha => br_f (by decide) (ds_m47 hh ha (H a b)))⟩)
theorem ds_msg_y {post : Int32 → St2 → Prop} {M : Nat} (hM : M < 2 ^ 18) (hT : ds_T a1 a2) (hF : ds_Fr M a4) (H : ∀ a b c : Nat → Int32, a 0 = nI 0 → post (nI M) (50, 1, 1, 0, a1, a2, a3, a4, a, b, c, a8, a9, a10, a11)) : wpX_message post (50, 0, fc, md, a1, a2, a3, a4, a5, a6, a7, a8, a9, a10, a11) 0 := by
  unfold wpX_message
  dsimp only
  refine ds_recv hF.1 (fun a ha => br_f (by decide) (br_t (show (0 : Int32) < 1 by decide) ⟨3, ds_m22 (h := 0) (acc := 0) (by decide) hT hF ha (fun b c => ds_m22 (h := 1) (by decide) hT hF ha (fun d e => ?_))⟩))
  rw [ds_acc_all M hM]
  exact pk_le 2 2 (fun _ => H a d e ha) (fun z => absurd z (by omega))
theorem ds_msg_n {post : Int32 → St2 → Prop} {x : Int32} (hx : x < 0 ∨ ¬ x < 1) (hK : ds_Mk a4) (H : ∀ a : Nat → Int32, a 0 = nI 0 → post (-1) (50, 1, 1, md, a1, a2, a3, a4, a, a6, a7, a8, a9, a10, a11)) : wpX_message post (50, 0, fc, md, a1, a2, a3, a4, a5, a6, a7, a8, a9, a10, a11) x := by
  unfold wpX_message
  dsimp only
  exact ds_recv hK (fun a ha => br_c (fun _ => H a ha) (fun h0 => br_f (hx.elim (fun z => absurd z h0) id) (H a ha)))
theorem ds_msg_0 {post : Int32 → St2 → Prop} {x : Int32} (H : post (-1) (0, 1, 0, md, a1, a2, a3, a4, a5, a6, a7, a8, a9, a10, a11)) : wpX_message post (0, 0, fc, md, a1, a2, a3, a4, a5, a6, a7, a8, a9, a10, a11) x := by
  unfold wpX_message
  dsimp only
  exact ds_recv0 (br_c (fun _ => H) (fun h0 => br_f h0 H))
/-! mended -/
theorem ds_n22 {post : Int32 → St2 → Prop} {M h n : Nat} (hh : h < 2) (hT : ds_T a1 a2) (hF : ds_Fr M a4) (h5 : a5 0 = nI 0) (H : ∀ a b : Nat → Int32, wX_mended_22 post 0 n 0 (nI (h + 1)) bc rc fc 0 a1 a2 a3 a4 a5 a b a8 a9 a10 a11) : wX_mended_22 post 0 (n + 1) 0 (nI h) bc rc fc md a1 a2 a3 a4 a5 a6 a7 a8 a9 a10 a11 :=
  pk_le 2 h (fun z => absurd z (by omega)) (fun _ => ⟨pk_in 0 6 (by decide), ds_mend hh hT hF h5 (fun a b ha => br_f (by decide) (nm_r (show (0 : Int32) + 0 = 0 by decide) (nm_r (nI_1 h) (H a b))))⟩)
theorem ds_mnd_y {post : Int32 → St2 → Prop} {M : Nat} (hT : ds_T a1 a2) (hF : ds_Fr M a4) (h5 : a5 0 = nI 0) (H : ∀ b c : Nat → Int32, post 0 (50, 1, 1, 0, a1, a2, a3, a4, a5, b, c, a8, a9, a10, a11)) : wpX_mended post (50, 1, 1, md, a1, a2, a3, a4, a5, a6, a7, a8, a9, a10, a11) 0 := by
  unfold wpX_mended
  dsimp only
  refine ds_recv1 (br_f (by decide) (br_t (show (0 : Int32) < 1 by decide) ⟨3, ds_n22 (h := 0) (by decide) hT hF h5 (fun b c => ds_n22 (h := 1) (by decide) hT hF h5 (fun d e => ?_))⟩))
  exact pk_le 2 2 (fun _ => H d e) (fun z => absurd z (by omega))
theorem ds_mnd_n {post : Int32 → St2 → Prop} {x : Int32} (hx : x < 0 ∨ ¬ x < fc) (H : post (-1) (bc, 1, fc, md, a1, a2, a3, a4, a5, a6, a7, a8, a9, a10, a11)) : wpX_mended post (bc, 1, fc, md, a1, a2, a3, a4, a5, a6, a7, a8, a9, a10, a11) x := by
  unfold wpX_mended
  dsimp only
  exact ds_recv1 (br_c (fun _ => H) (fun h0 => br_f (hx.elim (fun z => absurd z h0) id) H))
end
end
section
section
variable {bc rc fc md : Int32} {a1 a2 a3 a5 a6 a7 a8 a9 a10 a11 : Nat → Int32} {a4 : Nat → Int64}
theorem ds_g16 {post : St2 → Prop} {J : Int32 → (Nat → Int32) → (Nat → Int32) → (Nat → Int32) → (Nat → Int64) → (Nat → Int32) → (Nat → Int32) → (Nat → Int32) → (Nat → Int32) → (Nat → Int32) → (Nat → Int32) → (Nat → Int32) → Prop} {k : Nat} (hT : ds_T a1 a2) (hk : k < 5) (hk0 : 0 < k) (h3 : ∀ j, j < 5 → a3 j = nI (ds_Gk (k - 1) j)) (H : ∀ a : Nat → Int32, (∀ j, j < 5 → a j = nI (ds_Gk k j)) → J (nI (k + 1)) a1 a2 a a4 a5 a6 a7 a8 a9 a10 a11) : ∃ n, wX_buildGenerator_16 post J (nI k) bc rc fc md n (nI k) a1 a2 a3 a4 a5 a6 a7 a8 a9 a10 a11 := by
  have e1 : a1 (nI k).toNatClampNeg = nI (ds_P k) := by rw [nI_clamp (by omega)]; exact hT.1 k (by omega)
  refine ⟨k + 1, pk_loopD (fun n i s => wX_buildGenerator_16 post J (nI k) bc rc fc md n (nI i) a1 a2 s a4 a5 a6 a7 a8 a9 a10 a11) (fun i s => i ≤ k ∧ ∀ j, j < 5 → s j = nI (if i < j then ds_Gk k j else ds_Gk (k - 1) j)) ?_ ?_ k a3 ⟨Nat.le_refl k, fun j hj => ?_⟩⟩
  · intro n s ⟨_, hs⟩
    refine pk_le 0 0 (fun _ => ⟨pk_in k 14 (by omega), ?_⟩) (fun z => absurd z (by omega))
    have e0 : s 0 = nI (ds_Gk (k - 1) 0) := hs 0 (by decide)
    refine ds_product hT e0 e1 (ds_Gk_lt _ (by omega) 0 (by decide)) (ds_P_lt k (by omega)) ?_
    intro a ea x ex
    rw [ds_i8 _ (ds_mul_lt _ _), ds_Gk_0 k hk hk0] at ea
    rw [nI_1] at ex
    subst ea ex
    refine H _ (fun j hj => ?_)
    by_cases e : j = 0
    · subst e
      rw [pk_us]
    · rw [pk_un e, hs j hj, if_pos (by omega)]
  · intro n i s ⟨hi, hs⟩ hw
    refine pk_le (i + 1) 0 (fun z => absurd z (by omega)) (fun _ => ⟨pk_in (i + 1) 5 (by omega), pk_in k 14 (by omega), ?_⟩)
    have e0 : s (nI (i + 1)).toNatClampNeg = nI (ds_Gk (k - 1) (i + 1)) := by rw [nI_clamp (by omega), hs _ (by omega), if_neg (by omega)]
    have e2 : nI (i + 1) - 1 = nI i := nI_pred i
    refine ds_product hT e0 e1 (ds_Gk_lt _ (by omega) _ (by omega)) (ds_P_lt k (by omega)) ⟨pk_in i 5 (by omega) e2, pk_in (i + 1) 5 (by omega), ?_⟩
    intro a ea x ex
    have g := ds_Gk_in k hk (i + 1) (by omega) hk0 (by omega) hi
    rw [Nat.add_sub_cancel] at g
    rw [e2, nI_clamp (by omega), nI_clamp (by omega), hs i (by omega), if_neg (by omega), ds_xor, g, ds_i8 _ (ds_Gk_lt _ hk _ (by omega))] at ea
    rw [pk_m1] at ex
    subst ea ex
    refine hw _ ⟨by omega, fun j hj => ?_⟩
    by_cases e : j = i + 1
    · subst e
      rw [pk_us, if_pos (by omega)]
    · rw [pk_un e, hs j hj]
      by_cases c : i + 1 < j
      · rw [if_pos c, if_pos (by omega)]
      · rw [if_neg c, if_neg (by omega)]
  · rw [h3 j hj]
    by_cases c : k < j
    · rw [if_pos c, ds_Gk_hi k hk j hj hk0 c]
    · rw [if_neg c]
theorem ds_gen {post : St2 → Prop} (hT : ds_T a1 a2) (h3 : ∀ j, j < 5 → a3 j = nI 0) (H : ∀ a : Nat → Int32, ds_G a → post (bc, rc, fc, md, a1, a2, a, a4, a5, a6, a7, a8, a9, a10, a11)) : wpX_buildGenerator post (bc, rc, fc, md, a1, a2, a3, a4, a5, a6, a7, a8, a9, a10, a11) := by
  intro b eb
  refine pk_loop (fun n i s => wX_buildGenerator_9 post bc rc fc md n (nI i) a1 a2 s a4 a5 a6 a7 a8 a9 a10 a11) (fun i s => 0 < i ∧ ∀ j, j < 5 → s j = nI (ds_Gk (i - 1) j)) 5 1 b (by omega) ⟨by decide, fun j hj => ?_⟩ ?_ ?_
  · rw [eb]
    by_cases e : j = 0
    · subst e
      rw [pk_us]
      rfl
    · rw [pk_un e, h3 j hj]
      rcases (by omega : j = 1 ∨ j = 2 ∨ j = 3 ∨ j = 4) with c | c | c | c <;> subst c <;> rfl
  · intro n s ⟨_, hs⟩
    exact pk_lt 4 5 (fun _ => H s hs) (fun z => absurd z (by omega))
  · intro n i s hi ⟨h0, hs⟩ hw
    exact pk_lt 4 i (fun z => absurd z (by omega)) (fun _ => ds_g16 hT hi h0 hs (fun a ha => hw a ⟨by omega, ha⟩))
theorem ds_Pnx : ∀ k, k < 7 → ds_P k < 8 ∧ 0 < ds_P k ∧ ds_P (k + 7) = ds_P k ∧ (4 ≤ ds_P k → (2 * nI (ds_P k)) ^^^ 11 = nI (ds_P (k + 1))) ∧ (ds_P k < 4 → 2 * nI (ds_P k) = nI (ds_P (k + 1))) ∧ (nI k).toInt8.toInt32 = nI k := by decide +kernel
theorem ds_Pinj : ∀ j, j < 7 → ∀ k, k < 7 → ds_P j = ds_P k → j = k := by decide +kernel
theorem ds_PLg : ∀ j, j < 8 → 0 < j → ds_Lg j < 7 ∧ ds_P (ds_Lg j) = j := by decide +kernel
theorem ds_init {post : St2 → Prop} {mc ms : Nat} (hc : 11 ≤ mc) (hs : 68 ≤ ms) (H : ∀ b1 b2 b3 : Nat → Int32, ds_T b1 b2 → ds_G b3 → post (bc, rc, fc, md, b1, b2, b3, (fun _ => 0), (fun _ => 0), (fun _ => 0), (fun _ => 0), (fun _ => 0), (fun _ => 0), (fun _ => 0), (fun _ => 0))) : wpX_init post mc ms (bc, rc, fc, md) := by
  refine ⟨by omega, by omega, by omega, by omega, by omega, by omega, by omega, by omega, by omega, by omega, by omega, by omega, by omega, by omega, by omega, by omega, by omega, by omega, by omega, by omega, by omega, by omega, ?_⟩
  refine pk_loop (σ := Int32 × (Nat → Int32) × (Nat → Int32)) (fun n i s => wX_init_89 post mc ms 11 68 bc rc fc md n s.1 (nI i) s.2.1 s.2.2 (fun _ => 0) (fun _ => 0) (fun _ => 0) (fun _ => 0) (fun _ => 0) (fun _ => 0) (fun _ => 0) (fun _ => 0) (fun _ => 0))
    (fun i s => s.1 = nI (ds_P i) ∧ (∀ j, j < i → s.2.1 j = nI (ds_P j) ∧ s.2.1 (j + 7) = nI (ds_P j)) ∧ (∀ j, j < i → s.2.2 (ds_P j) = nI j)) 7 0 (1, (fun _ => 0), (fun _ => 0)) (by omega) ⟨rfl, fun j hj => absurd hj (by omega), fun j hj => absurd hj (by omega)⟩ ?_ ?_
  · intro n ⟨x, b, c⟩ ⟨_, hb, hl⟩
    dsimp only at hb hl ⊢
    refine pk_le 7 7 (fun _ => ?_) (fun z => absurd z (by omega))
    have hT : ds_T b c := by
      refine ⟨fun j hj => ?_, fun j h0 hj => ?_⟩
      · rcases Nat.lt_or_ge j 7 with z | z
        · exact (hb j z).1
        · have t := (hb (j - 7) (by omega)).2
          have p := (ds_Pnx (j - 7) (by omega)).2.2.1
          rw [show j - 7 + 7 = j by omega] at t p
          rw [t, p]
      · obtain ⟨l1, l2⟩ := ds_PLg j hj h0
        have t := hl _ l1
        rw [l2] at t
        exact t
    exact ds_gen hT (fun _ _ => rfl) (fun a ha => H b c a hT ha)
  · intro n i ⟨x, b, c⟩ hi ⟨hx, hb, hl⟩ hw
    dsimp only at hx hb hl hw ⊢
    obtain ⟨p1, p2, p3, p4, p5, p6⟩ := ds_Pnx i hi
    subst hx
    refine pk_le 7 i (fun z => absurd z (by omega)) (fun _ => ⟨pk_in i 14 (by omega), ?_⟩)
    intro b' eb
    refine ⟨pk_in (i + 7) 14 (by omega) (nI_add i 7), ?_⟩
    intro b'' eb'
    refine ⟨pk_in _ 8 p1, ?_⟩
    intro c' ec
    rw [nI_clamp (by omega), ds_i8 _ p1] at eb
    rw [show nI i + 7 = nI (i + 7) from nI_add i 7, nI_clamp (by omega), ds_i8 _ p1, eb] at eb'
    rw [nI_clamp (by omega), p6] at ec
    have I1 : ∀ j, j < i + 1 → b'' j = nI (ds_P j) ∧ b'' (j + 7) = nI (ds_P j) := by
      intro j hj
      rw [eb']
      by_cases e : j = i
      · subst e
        rw [pk_un (by omega), pk_us, pk_us]
        exact ⟨rfl, rfl⟩
      · rw [pk_un (by omega), pk_un (by omega), pk_un (by omega), pk_un (by omega)]
        exact hb j (by omega)
    have I2 : ∀ j, j < i + 1 → c' (ds_P j) = nI j := by
      intro j hj
      rw [ec]
      by_cases e : j = i
      · subst e
        rw [pk_us]
      · rw [pk_un (fun z => e (ds_Pinj j (by omega) i hi z))]
        exact hl j (by omega)
    exact pk_le 4 (ds_P i) (fun z => nm_r (p4 z) (nm_r (nI_1 i) (hw (_, b'', c') ⟨rfl, I1, I2⟩))) (fun z => nm_r (p5 z) (nm_r (nI_1 i) (hw (_, b'', c') ⟨rfl, I1, I2⟩)))
end
end
section
section
variable {bc rc fc md : Int32} {a1 a2 a3 a5 a6 a7 a8 a9 a10 a11 : Nat → Int32} {a4 : Nat → Int64}
theorem ds_flip_y {post : Int32 → St2 → Prop} {i c : Nat} (hi : i < c) (hc : c ≤ 50) (H : ∀ a : Nat → Int64, post (1 - nI (ds_b a4 i).toNat) ((nI c), 0, fc, md, a1, a2, a3, a, a5, a6, a7, a8, a9, a10, a11)) : wpX_flip post ((nI c), rc, fc, md, a1, a2, a3, a4, a5, a6, a7, a8, a9, a10, a11) (nI i) := by
  unfold wpX_flip
  dsimp only
  exact ds_isBit_y hi hc (br_f (by decide) (ds_bitAt (by omega) rfl (nm_e (ds_setBit (by omega) rfl (fun a _ => H a)))))
theorem ds_flip_n {post : Int32 → St2 → Prop} {x : Int32} (hx : x < 0 ∨ bc ≤ x) (H : post (-1) (bc, rc, fc, md, a1, a2, a3, a4, a5, a6, a7, a8, a9, a10, a11)) : wpX_flip post (bc, rc, fc, md, a1, a2, a3, a4, a5, a6, a7, a8, a9, a10, a11) x := by
  unfold wpX_flip
  dsimp only
  exact ds_isBit_n hx (br_t rfl H)
/-- a bit is put in at j: the bits behind it move, from the end -/
theorem ds_ins_y {post : Int32 → St2 → Prop} {j c : Nat} (hj : j ≤ c) (hc : c ≤ 50) (H : ∀ a : Nat → Int64, post (nI (c + 1)) ((nI (c + 1)), 0, fc, md, a1, a2, a3, a, a5, a6, a7, a8, a9, a10, a11)) : wpX_insert post ((nI c), rc, fc, md, a1, a2, a3, a4, a5, a6, a7, a8, a9, a10, a11) (nI j) 1 := by
  refine pk_lt j 0 (fun z => absurd z (by omega)) (fun _ => pk_le j c (fun _ => pk_lt c 300 (fun _ => ?_) (fun z => absurd z (by omega))) (fun z => absurd z (by omega)))
  have L : ∀ d : Nat, ∀ s : Nat → Int64, j + d ≤ c → wX_insert_32 post (nI j) 1 (d + 1) (nI (j + d)) (nI c) rc fc md a1 a2 a3 s a5 a6 a7 a8 a9 a10 a11 := by
    intro d
    induction d with
    | zero =>
      intro s _
      refine pk_le j j (fun _ => br_f (by decide) ?_) (fun z => absurd z (by omega))
      unfold wX_insert_70
      exact ds_setBit (i := j) (by omega) rfl (fun a _ => nm_r (nI_1 c) (H a))
    | succ d ih =>
      intro s hd
      refine pk_le (j + d + 1) j (fun z => absurd z (by omega)) (fun _ => ds_bitAt (i := j + d) (by omega) (nI_pred (j + d)) ?_)
      exact ds_setBit (i := j + d + 1) (by omega) rfl (fun a _ => nm_r (pk_m1 (j + d)) (ih a (by omega)))
  have t := L (c - j) a4 (by omega)
  rw [show j + (c - j) = c by omega] at t
  exact ⟨_, t⟩
theorem ds_ins_n {post : Int32 → St2 → Prop} {x y : Int32} (hx : x < 0 ∨ ¬ x ≤ bc) (H : post (-1) (bc, rc, fc, md, a1, a2, a3, a4, a5, a6, a7, a8, a9, a10, a11)) : wpX_insert post (bc, rc, fc, md, a1, a2, a3, a4, a5, a6, a7, a8, a9, a10, a11) x y :=
  br_c (fun _ => H) (fun h0 => br_f (hx.elim (fun z => absurd z h0) id) H)
/-! the law, from its end -/
theorem ds_L225 {post : Int32 → St0 → Prop} {mc ms kc ks c : Nat} {x2 z0 z1 : Int32} (hp : post 1 ()) (hc : c ≤ 50) (hz : z1 = z0) : wL_lawOf_225 post mc ms x2 (nI c) z0 z1 kc ks (nI c) rc fc md a1 a2 a3 a4 a5 a6 a7 a8 a9 a10 a11 := by
  unfold wL_lawOf_225
  refine br_t hz ?_
  by_cases h0 : x2 < 0
  · refine ds_ins_n (Or.inl h0) (br_t h0 ?_)
    unfold wL_lawOf_247 wL_lawOf_255
    exact br_t rfl hp
  · by_cases h1 : x2 ≤ nI c
    · obtain ⟨j, hj, e⟩ := nI_of h0
      have hjc : j ≤ c := by
        rw [e, nI_leI hj (by omega)] at h1
        exact h1
      subst e
      refine ds_ins_y hjc hc (fun a => br_f h0 (br_t h1 ?_))
      unfold wL_lawOf_255
      exact br_t (nI_1 c).symm hp
    · refine ds_ins_n (Or.inr h1) (br_f h0 (br_f h1 ?_))
      unfold wL_lawOf_247 wL_lawOf_255
      exact br_t rfl hp
/-- what the law has learnt of place x1: not there, or a bit of the line -/
def ds_Q (a4 : Nat → Int64) (c : Nat) (x1 x6 x9 : Int32) : Prop := (x6 = 0 ∧ (x1 < 0 ∨ nI c ≤ x1)) ∨ (x6 = 1 ∧ ∃ i, i < c ∧ x1 = nI i ∧ x9 = nI (ds_b a4 i).toNat)
theorem ds_L201 {post : Int32 → St0 → Prop} {mc ms kc ks c : Nat} {x1 x2 x6 x9 z0 z1 : Int32} (hp : post 1 ()) (hc : c ≤ 50) (hQ : ds_Q a4 c x1 x6 x9) (hz : z1 = z0) : wL_lawOf_201 post mc ms x1 x2 (nI c) x6 x9 z0 z1 kc ks (nI c) rc fc md a1 a2 a3 a4 a5 a6 a7 a8 a9 a10 a11 := by
  unfold wL_lawOf_201
  refine br_t hz ?_
  rcases hQ with ⟨e6, h⟩ | ⟨e6, i, hi, e1, e9⟩
  · exact ds_flip_n h (br_t e6 (ds_L225 hp hc rfl))
  · subst e1 e6 e9
    exact ds_flip_y hi hc (fun a => br_f (by decide) (ds_L225 hp hc rfl))
theorem ds_lt1 {x : Int32} (h0 : ¬ x < 0) (h1 : x < 1) : x = 0 := by
  obtain ⟨j, hj, e⟩ := nI_of h0
  subst e
  have t := (nI_ltI (b := 1) hj (by decide)).mp h1
  rw [show j = 0 by omega]
  rfl
theorem ds_ne0 {x : Int32} (h : ¬ x = 0) : x < 0 ∨ ¬ x < 1 := by
  by_cases h0 : x < 0
  · exact Or.inl h0
  · exact Or.inr (fun h1 => h (ds_lt1 h0 h1))
/-- behind the message, a frame was sent -/
theorem ds_L176 {post : Int32 → St0 → Prop} {mc ms kc ks M : Nat} {x1 x2 x3 x6 x9 z0 z1 : Int32} (hp : post 1 ()) (hT : ds_T a1 a2) (hF : ds_Fr M a4) (h5 : a5 0 = nI 0) (hQ : ds_Q a4 50 x1 x6 x9) (hz : z1 = z0) :
    wL_lawOf_176 post mc ms x1 x2 x3 1 50 x6 x9 z0 z1 kc ks 50 1 1 md a1 a2 a3 a4 a5 a6 a7 a8 a9 a10 a11 := by
  unfold wL_lawOf_176
  refine br_t hz ?_
  by_cases h3 : x3 = 0
  · subst h3
    exact ds_mnd_y hT hF h5 (fun b c => br_f (by decide) (br_t rfl (ds_L201 (c := 50) hp (by decide) hQ rfl)))
  · refine ds_mnd_n (ds_ne0 h3) (br_f (by decide) (br_f h3 ?_))
    unfold wL_lawOf_200
    exact ds_L201 (c := 50) hp (by decide) hQ rfl
theorem ds_L156 {post : Int32 → St0 → Prop} {mc ms kc ks M : Nat} {x1 x2 x3 x6 x9 : Int32} (hp : post 1 ()) (hM : M < 2 ^ 18) (hT : ds_T a1 a2) (hF : ds_Fr M a4) (hQ : ds_Q a4 50 x1 x6 x9) :
    wL_lawOf_156 post mc ms (nI M) x1 x2 x3 1 50 x6 x9 kc ks 50 0 fc md a1 a2 a3 a4 a5 a6 a7 a8 a9 a10 a11 := by
  unfold wL_lawOf_156
  by_cases h3 : x3 = 0
  · subst h3
    exact ds_msg_y hM hT hF (fun a b c ha => br_f (by decide) (br_t rfl (ds_L176 hp hT hF ha hQ rfl)))
  · refine ds_msg_n (ds_ne0 h3) hF.1 (fun a ha => br_f (by decide) (br_f h3 ?_))
    unfold wL_lawOf_175
    exact ds_L176 hp hT hF ha hQ rfl
/-- no frame was sent -/
theorem ds_L156n {post : Int32 → St0 → Prop} {mc ms kc ks : Nat} {x0 x1 x2 x3 x6 x9 : Int32} (hp : post 1 ()) (hQ : ds_Q a4 0 x1 x6 x9) :
    wL_lawOf_156 post mc ms x0 x1 x2 x3 0 0 x6 x9 kc ks 0 0 fc md a1 a2 a3 a4 a5 a6 a7 a8 a9 a10 a11 := by
  unfold wL_lawOf_156
  refine ds_msg_0 (br_t rfl ?_)
  unfold wL_lawOf_175 wL_lawOf_176
  refine br_t rfl (ds_mnd_n ?_ (br_t rfl ?_))
  · by_cases h0 : x3 < 0
    · exact Or.inl h0
    · exact Or.inr h0
  · unfold wL_lawOf_200
    exact ds_L201 (c := 0) hp (by decide) hQ rfl
def ds_mk (x1 x7 : Int32) : Prop := ∀ i, i < 8 → x1 = nI i → x7 = nI ((178 : Nat).testBit (7 - i)).toNat
theorem ds_L100 {post : Int32 → St0 → Prop} {mc ms kc ks M : Nat} {x1 x2 x3 x6 x7 : Int32} (hp : post 1 ()) (hM : M < 2 ^ 18) (hT : ds_T a1 a2) (hF : ds_Fr M a4) (h7 : ds_mk x1 x7) (hx : (x6 = 0 ∧ (x1 < 0 ∨ 50 ≤ x1)) ∨ (x6 = 1 ∧ ¬ x1 < 0 ∧ ¬ 50 ≤ x1)) :
    wL_lawOf_100 post mc ms (nI M) x1 x2 x3 1 50 x6 x7 50 50 kc ks 50 0 fc md a1 a2 a3 a4 a5 a6 a7 a8 a9 a10 a11 := by
  unfold wL_lawOf_100
  refine br_t rfl ?_
  rcases hx with ⟨e6, h⟩ | ⟨e6, g0, g1⟩
  · exact ds_bit_n h (br_t e6 (br_t rfl (ds_L156 hp hM hT hF (Or.inl ⟨e6, h⟩))))
  · obtain ⟨i, hi31, e1⟩ := nI_of g0
    subst e1 e6
    have hi : i < 50 := by
      rcases Nat.lt_or_ge i 50 with z | z
      · exact z
      · exact absurd (nI_le (a := 50) z hi31) g1
    have go : ∀ r : Int32, r = nI (ds_b a4 i).toNat → wL_lawOf_156 post mc ms (nI M) (nI i) x2 x3 1 50 1 r kc ks 50 0 fc md a1 a2 a3 a4 a5 a6 a7 a8 a9 a10 a11 := fun r er => ds_L156 hp hM hT hF (Or.inr ⟨rfl, i, hi, rfl, er⟩)
    refine ds_bit_y (c := 50) hi (by decide) (br_f (by decide) (pk_le 8 i (fun z => ?_) (fun z => br_t ?_ (go _ rfl))))
    · cases hb : ds_b a4 i with
      | false => exact br_t rfl (go _ (by rw [hb]))
      | true => exact br_f (by decide) (br_t rfl (go _ (by rw [hb])))
    · rw [h7 i z rfl, hF.1 i z]
theorem ds_L100n {post : Int32 → St0 → Prop} {mc ms kc ks : Nat} {x0 x1 x2 x3 x7 : Int32} (hp : post 1 ()) :
    wL_lawOf_100 post mc ms x0 x1 x2 x3 0 0 0 x7 (-1) (-1) kc ks 0 0 fc md a1 a2 a3 a4 a5 a6 a7 a8 a9 a10 a11 := by
  have hx : x1 < 0 ∨ 0 ≤ x1 := by
    rcases Int32.lt_or_le x1 0 with h | h
    · exact Or.inl h
    · exact Or.inr h
  unfold wL_lawOf_100
  exact br_t rfl (ds_bit_n hx (br_t rfl (br_t rfl (ds_L156n hp (Or.inl ⟨rfl, hx⟩)))))
end
theorem ds_L72 {post : Int32 → St0 → Prop} {M : Nat} {x1 x2 x3 x6 x7 : Int32} (hp : post 1 ()) (hM : M < 2 ^ 18) (h7 : ds_mk x1 x7) (hx : (x6 = 0 ∧ (x1 < 0 ∨ 50 ≤ x1)) ∨ (x6 = 1 ∧ ¬ x1 < 0 ∧ ¬ 50 ≤ x1)) : wL_lawOf_72 post 12 83 (nI M) x1 x2 x3 1 50 x6 x7 0 0 := by
  unfold wL_lawOf_72
  exact ⟨by decide, by decide, 11, 68, by decide, by decide, ds_init (by decide) (by decide) (fun b1 b2 b3 hT hG => ds_send hT hG hM (fun a b hF => br_f (by decide) (ds_L100 hp hM hT hF h7 hx)))⟩
theorem ds_L72n {post : Int32 → St0 → Prop} {x0 x1 x2 x3 x7 : Int32} (hp : post 1 ()) (h0 : x0 < 0 ∨ 262143 < x0) : wL_lawOf_72 post 12 83 x0 x1 x2 x3 0 0 0 x7 0 0 := by
  unfold wL_lawOf_72
  exact ⟨by decide, by decide, 11, 68, by decide, by decide, ds_init (by decide) (by decide) (fun b1 b2 b3 hT hG => ds_send_no h0 (br_t rfl (ds_L100n hp)))⟩
/-- the marker's bit at x1, as the law reckons it -/
theorem ds_L45 {post : Int32 → St0 → Prop} {mc ms : Nat} {x0 x1 x2 x3 x4 x5 x6 : Int32} (H : ∀ x7, ds_mk x1 x7 → wL_lawOf_72 post mc ms x0 x1 x2 x3 x4 x5 x6 x7 0 0) : wL_lawOf_45 post mc ms x0 x1 x2 x3 x4 x5 x6 0 0 := by
  have one : ∀ i, (i = 0 ∨ i = 2 ∨ i = 3 ∨ i = 6) → x1 = nI i → wL_lawOf_67 post mc ms x0 x1 x2 x3 x4 x5 x6 0 0 := by
    intro i hi e
    refine H 1 (fun k hk ek => ?_)
    have ei : i = k := (nI_eq (by omega) (by omega)).mp (e.symm.trans ek)
    subst ei
    rcases hi with c | c | c | c <;> subst c <;> rfl
  unfold wL_lawOf_45
  refine br_c (fun e => one 0 (by omega) e) (fun n0 => br_c (fun e => one 2 (by omega) e) (fun n2 => br_c (fun e => one 3 (by omega) e) (fun n3 => br_c (fun e => one 6 (by omega) e) (fun n6 => H 0 (fun k hk ek => ?_)))))
  subst ek
  rcases (by omega : k = 0 ∨ k = 1 ∨ k = 2 ∨ k = 3 ∨ k = 4 ∨ k = 5 ∨ k = 6 ∨ k = 7) with c | c | c | c | c | c | c | c <;> subst c <;> first | rfl | exact absurd rfl n0 | exact absurd rfl n2 | exact absurd rfl n3 | exact absurd rfl n6
theorem ds_law {post : Int32 → St0 → Prop} (hp : post 1 ()) (p0 p1 p2 p3 : Int32) : wpL_lawOf post 12 83 () p0 p1 p2 p3 := by
  have no : (p0 < 0 ∨ 262143 < p0) → wL_lawOf_14 post 12 83 p0 p1 p2 p3 0 0 := by
    intro h
    unfold wL_lawOf_14 wL_lawOf_15
    refine br_t rfl ?_
    unfold wL_lawOf_28
    refine br_c (fun _ => ?_) (fun g => br_t ?_ ?_)
    · unfold wL_lawOf_44
      exact ds_L45 (fun x7 _ => ds_L72n hp h)
    · rcases Int32.lt_or_le p1 0 with z | z
      · exact absurd z g
      · exact z
    · unfold wL_lawOf_44
      exact ds_L45 (fun x7 _ => ds_L72n hp h)
  refine br_c (fun h => no (Or.inl h)) (fun h0 => br_c (fun h => no (Or.inr h)) (fun h1 => ?_))
  obtain ⟨M, hM31, eM⟩ := nI_of h0
  subst eM
  have hM : M < 2 ^ 18 := by
    rcases Nat.lt_or_ge M (2 ^ 18) with z | z
    · exact z
    · exact absurd (nI_lt (a := 262143) (b := M) (by omega) hM31) h1
  unfold wL_lawOf_15
  refine br_f (by decide) ?_
  unfold wL_lawOf_28
  refine br_c (fun g => ?_) (fun g => br_c (fun g2 => ?_) (fun g2 => ?_))
  · unfold wL_lawOf_44
    exact ds_L45 (fun x7 h7 => ds_L72 hp hM h7 (Or.inl ⟨rfl, Or.inl g⟩))
  · unfold wL_lawOf_44
    exact ds_L45 (fun x7 h7 => ds_L72 hp hM h7 (Or.inl ⟨rfl, Or.inr g2⟩))
  · exact ds_L45 (fun x7 h7 => ds_L72 hp hM h7 (Or.inr ⟨rfl, g, g2⟩))
theorem ds_cell {post : Int32 → Prop} {L : Nat} {xs : Nat → Int32} (hL : L ≤ 4) (k : Nat) (hk : k < 4) (H : ∀ r, post r) : wpL_cellAt post L xs () (nI k) :=
  pk_le L k (fun _ => H _) (fun z => ⟨pk_in k L z, H _⟩)
theorem i_vc (xs : Nat → Int32) (L : Nat) (hL : L ≤ 4) : wpL_law (fun r => r = 1) L xs := by
  unfold wpL_law
  exact ds_cell hL 0 (by decide) (fun r1 => ds_cell hL 1 (by decide) (fun r2 => ds_cell hL 2 (by decide) (fun r3 => ds_cell hL 3 (by decide) (fun r4 => ⟨12, 83, by decide, by decide, ds_law rfl r1 r2 r3 r4⟩))))
end
