section
/-! rows of kit/rows (starting text) -/
theorem pk_us {f : Nat → Int32} {k : Nat} {x : Int32} : upd f k x k = x := if_pos rfl
theorem pk_un {f : Nat → Int32} {k j : Nat} {x : Int32} (h : j ≠ k) : upd f k x j = f j := if_neg h
theorem pk_uLs {f : Nat → Int64} {k : Nat} {x : Int64} : vp_updL f k x k = x := if_pos rfl
theorem pk_uLn {f : Nat → Int64} {k j : Nat} {x : Int64} (h : j ≠ k) : vp_updL f k x j = f j := if_neg h
theorem pk_sub {a b : Nat} (h : b ≤ a) : nI a - nI b = nI (a - b) := by
  obtain ⟨c, rfl⟩ : ∃ c, a = c + b := ⟨a - b, by omega⟩
  rw [← nI_add, Int32.add_sub_cancel, Nat.add_sub_cancel]
theorem pk_m1 (n : Nat) : nI (n + 1) + (-1) = nI n := by
  rw [← nI_1, Int32.add_assoc, show (1 : Int32) + (-1) = 0 from rfl, Int32.add_zero]
theorem pk_mul (a b : Nat) : nI a * nI b = nI (a * b) := (Int32.ofNat_mul a b).symm
theorem pk_ix (x : Int32) {n : Nat} (hn : n < 2 ^ 31) : x < 0 ∨ nI n ≤ x ∨ ∃ j : Nat, j < n ∧ x = nI j := by
  by_cases h : x < 0
  · exact Or.inl h
  · obtain ⟨j, hj, rfl⟩ := nI_of h
    by_cases h2 : j < n
    · exact Or.inr (Or.inr ⟨j, h2, rfl⟩)
    · exact Or.inr (Or.inl (nI_le (by omega) hj))
theorem pk_le {x y : Int32} {A B : Prop} (a b : Nat) (f : a ≤ b → A) (g : b < a → B) (hx : x = nI a := by rfl) (hy : y = nI b := by rfl) (ha : a < 2 ^ 31 := by omega) (hb : b < 2 ^ 31 := by omega) : (x ≤ y → A) ∧ (¬ x ≤ y → B) := by
  subst hx hy
  rw [nI_leI ha hb]
  exact ⟨f, fun z => g (by omega)⟩
theorem pk_lt {x y : Int32} {A B : Prop} (a b : Nat) (f : a < b → A) (g : b ≤ a → B) (hx : x = nI a := by rfl) (hy : y = nI b := by rfl) (ha : a < 2 ^ 31 := by omega) (hb : b < 2 ^ 31 := by omega) : (x < y → A) ∧ (¬ x < y → B) := by
  subst hx hy
  rw [nI_ltI ha hb]
  exact ⟨f, fun z => g (by omega)⟩
theorem pk_eq {x y : Int32} {A B : Prop} (a b : Nat) (f : a = b → A) (g : a ≠ b → B) (hx : x = nI a := by rfl) (hy : y = nI b := by rfl) (ha : a < 2 ^ 31 := by omega) (hb : b < 2 ^ 31 := by omega) : (x = y → A) ∧ (¬ x = y → B) := by
  subst hx hy
  rw [nI_eq ha hb]
  exact ⟨f, g⟩
theorem pk_in {x : Int32} (n N : Nat) (h : n < N) (hx : x = nI n := by rfl) (hN : N < 2 ^ 31 := by omega) : vp_in x N := by
  subst hx
  exact vp_in_nI h hN
theorem pk_cl {x : Int32} (n : Nat) (hx : x = nI n := by rfl) (h : n < 2 ^ 31 := by omega) : x.toNatClampNeg = n := by
  subst hx
  exact nI_clamp h
theorem pk_tn {n : Nat} (h : n < 2 ^ 32) : (nI n).toBitVec.toNat = n := Nat.mod_eq_of_lt h
theorem pk_vb (z : Int32) : vp_nar .byte z.toInt8.toInt32 = z.toInt8.toInt32 := by rw [vp_nar_byte]; simp
def bt (x : Int32) (i : Nat) : Bool := x.toBitVec.getLsbD i
theorem b_ext {x y : Int32} (h : ∀ i, i < 32 → bt x i = bt y i) : x = y := Int32.toBitVec_inj.mp (BitVec.eq_of_getLsbD_eq (fun i hi => h i hi))
theorem b_or (x y : Int32) (i : Nat) : bt (x ||| y) i = (bt x i || bt y i) := by unfold bt; rw [Int32.toBitVec_or, BitVec.getLsbD_or]
theorem b_and (x y : Int32) (i : Nat) : bt (x &&& y) i = (bt x i && bt y i) := by unfold bt; rw [Int32.toBitVec_and, BitVec.getLsbD_and]
theorem b_big {x : Int32} {i : Nat} (h : 32 ≤ i) : bt x i = false := BitVec.getLsbD_of_ge _ _ h
theorem b_0 (i : Nat) : bt 0 i = false := BitVec.getLsbD_zero
theorem s_l : ∀ n, n < 32 → ((nI n &&& 31).toBitVec.smod 32).toNat = n := by decide +kernel
theorem b_shl (n : Nat) (hn : n < 32) (x : Int32) {i : Nat} (hi : i < 32) : bt (x <<< (nI n &&& 31)) i = (decide (n ≤ i) && bt x (i - n)) := by
  unfold bt
  rw [Int32.toBitVec_shiftLeft]
  show (x.toBitVec <<< ((nI n &&& 31).toBitVec.smod 32).toNat).getLsbD i = _
  rw [s_l n hn, BitVec.getLsbD_shiftLeft]
  rcases Nat.lt_or_ge i n with h | h
  · simp [h, Nat.not_le.mpr h]
  · simp [hi, h, Nat.not_lt.mpr h]
theorem b_sshr (n : Nat) (hn : n < 32) (x : Int32) {i : Nat} (hi : i < 32) : bt (x >>> (nI n &&& 31)) i = if n + i < 32 then bt x (n + i) else bt x 31 := by
  unfold bt
  rw [Int32.toBitVec_shiftRight]
  show (x.toBitVec.sshiftRight ((nI n &&& 31).toBitVec.smod 32).toNat).getLsbD i = _
  rw [s_l n hn, BitVec.getLsbD_sshiftRight, BitVec.msb_eq_getLsbD_last]
  simp [hi]
theorem nf_sh : ∀ l, l < 32 → ((1 : Int32) <<< (nI l &&& 31)).toBitVec = BitVec.twoPow 32 l := by decide +kernel
theorem ts_nf {x : Bool} (h : ¬ x = false) : x = true := by cases x <;> first | rfl | exact absurd rfl h
theorem ts_nt {x : Bool} (h : ¬ x = true) : x = false := by cases x <;> first | rfl | exact absurd rfl h
theorem ts_bit {w : Int64} {s : UInt64} {j : Nat} (hj : j < 64) (hs : s.toNat = j) : ((w.toUInt64 >>> s).toInt64 &&& 1) = 0 ↔ w.toBitVec.getLsbD j = false := by
  have e : (w.toUInt64 >>> s).toInt64.toBitVec = w.toBitVec >>> j := by
    apply BitVec.eq_of_toNat_eq
    show (w.toUInt64 >>> s).toNat = _
    rw [UInt64.toNat_shiftRight, hs, Nat.mod_eq_of_lt hj, BitVec.toNat_ushiftRight]
    rfl
  rw [← Int64.toBitVec_inj, Int64.toBitVec_and, e]
  show w.toBitVec >>> j &&& 1#64 = 0#64 ↔ _
  constructor
  · intro h
    have t := congrArg (fun x => x.getLsbD 0) h
    simpa using t
  · intro h
    apply BitVec.eq_of_getLsbD_eq
    intro i hi
    cases i with
    | zero => simp [h]
    | succ i => simp
theorem wb_tb (n : Nat) : (lN n).toBitVec = BitVec.ofNat 64 n := rfl
theorem wb_inj {a b : Int64} (h : a.toBitVec = b.toBitVec) : a = b := Int64.toBitVec_inj.mp h
theorem wb_tn {n : Nat} (h : n < 2 ^ 64) : (lN n).toBitVec.toNat = n := by rw [wb_tb, BitVec.toNat_ofNat, Nat.mod_eq_of_lt h]
theorem wb_of (x : Int64) : ∃ n, n < 2 ^ 64 ∧ x = lN n := ⟨x.toBitVec.toNat, x.toBitVec.isLt, wb_inj (by rw [wb_tb]; simp)⟩
theorem wb_c : ∀ k, k < 64 → ((nI k).toInt64 &&& 63) = lN k := by decide +kernel
theorem wb_cu : ∀ k, k < 64 → ((nI k).toInt64.toUInt64 &&& Int64.toUInt64 63) = UInt64.ofNat k := by decide +kernel
theorem wb_sm : ∀ k, k < 64 → (BitVec.ofNat 64 k).smod 64 = BitVec.ofNat 64 k := by decide +kernel
theorem wb_pw {a b : Nat} (h : a ≤ b) : 2 ^ b = 2 ^ a * 2 ^ (b - a) := by rw [← Nat.pow_add]; congr 1; omega
theorem wb_lt2 {a b : Nat} (h : a < b) : 2 ^ a < 2 ^ b := Nat.pow_lt_pow_right (by decide) h
theorem wb_shr {n k : Nat} (hn : n < 2 ^ 64) (hk : k < 64) : ((lN n).toUInt64 >>> ((nI k).toInt64.toUInt64 &&& Int64.toUInt64 63)).toInt64 = lN (n / 2 ^ k) := by
  rw [wb_cu k hk]
  apply wb_inj
  apply BitVec.eq_of_toNat_eq
  show ((lN n).toUInt64 >>> UInt64.ofNat k).toNat = (BitVec.ofNat 64 _).toNat
  have h1 : (UInt64.ofNat k).toNat = k := by
    show (BitVec.ofNat 64 k).toNat = k
    rw [BitVec.toNat_ofNat, Nat.mod_eq_of_lt (by omega)]
  have h2 : (lN n).toUInt64.toNat = n := wb_tn hn
  rw [UInt64.toNat_shiftRight, h1, h2, Nat.mod_eq_of_lt hk, Nat.shiftRight_eq_div_pow, BitVec.toNat_ofNat, Nat.mod_eq_of_lt (Nat.lt_of_le_of_lt (Nat.div_le_self _ _) hn)]
theorem wb_and {a b : Nat} (ha : a < 2 ^ 64) (hb : b < 2 ^ 64) : lN a &&& lN b = lN (a &&& b) := by
  apply wb_inj
  rw [Int64.toBitVec_and, wb_tb, wb_tb, wb_tb]
  apply BitVec.eq_of_toNat_eq
  rw [BitVec.toNat_and, BitVec.toNat_ofNat, BitVec.toNat_ofNat, BitVec.toNat_ofNat, Nat.mod_eq_of_lt ha, Nat.mod_eq_of_lt hb, Nat.mod_eq_of_lt (Nat.and_lt_two_pow _ hb)]
theorem wb_mask {n k : Nat} (hn : n < 2 ^ 64) (hk : k < 64) : lN n &&& lN (2 ^ k - 1) = lN (n % 2 ^ k) := by
  rw [wb_and hn (by have := wb_lt2 hk; omega), Nat.and_two_pow_sub_one_eq_mod]
theorem wb_a1 {n : Nat} (hn : n < 2 ^ 64) : lN n &&& 1 = lN (n % 2) := wb_mask (k := 1) hn (by decide)
theorem wb_bit {n k : Nat} (hn : n < 2 ^ 64) (hk : k < 64) : ((lN n).toUInt64 >>> ((nI k).toInt64.toUInt64 &&& Int64.toUInt64 63)).toInt64 &&& 1 = lN (n / 2 ^ k % 2) := by
  rw [wb_shr hn hk, wb_a1 (Nat.lt_of_le_of_lt (Nat.div_le_self _ _) hn)]
end
section
/-! the plain law: lists of tokens, ends of parts, a pattern laid over a list -/
def qp_ar (x : Nat) : Nat := if x < 2 then 2 else if x < 4 then 1 else 0
theorem qp_ar_le (x : Nat) : qp_ar x ≤ 2 := by
  unfold qp_ar; split <;> (try split) <;> omega
theorem qp_ar2 {x : Nat} (h : x < 2) : qp_ar x = 2 := if_pos h
theorem qp_ar1 {x : Nat} (h : ¬ x < 2) (h2 : x < 4) : qp_ar x = 1 := by
  unfold qp_ar; rw [if_neg h, if_pos h2]
theorem qp_ar0 {x : Nat} (h : ¬ x < 4) : qp_ar x = 0 := by
  unfold qp_ar; rw [if_neg (by omega), if_neg h]
theorem qp_ar_2 {x : Nat} : qp_ar x = 2 ↔ x < 2 := by
  unfold qp_ar; split <;> (try split) <;> omega
theorem qp_ar_1 {x : Nat} : qp_ar x = 1 ↔ ¬ x < 2 ∧ x < 4 := by
  unfold qp_ar; split <;> (try split) <;> omega
theorem qp_ar_0 {x : Nat} : qp_ar x = 0 ↔ ¬ x < 4 := by
  unfold qp_ar; split <;> (try split) <;> omega

/-- how many parts are still wanting behind k tokens -/
def qp_op (t : Nat → Nat) : Nat → Nat
  | 0 => 1
  | k + 1 => qp_op t k + qp_ar (t k) - 1
theorem qp_op_0 (t : Nat → Nat) : qp_op t 0 = 1 := rfl
theorem qp_op_s (t : Nat → Nat) (k : Nat) : qp_op t (k + 1) = qp_op t k + qp_ar (t k) - 1 := rfl
theorem qp_op_le (t : Nat → Nat) : ∀ k, qp_op t k ≤ k + 1
  | 0 => Nat.le_refl 1
  | k + 1 => by
    have h := qp_op_le t k
    have h2 := qp_ar_le (t k)
    rw [qp_op_s]; omega
theorem qp_op_cong {t t' : Nat → Nat} : ∀ k, (∀ j, j < k → t j = t' j) → qp_op t k = qp_op t' k
  | 0, _ => rfl
  | k + 1, h => by
    rw [qp_op_s, qp_op_s, qp_op_cong k (fun j hj => h j (by omega)), h k (by omega)]

/-- the place behind: as the reference goes -/
def qp_bd (t : Nat → Nat) : Nat → Nat → Nat → Nat
  | 0, _, a => a
  | f + 1, o, a => if o = 0 then a else qp_bd t f (o + qp_ar (t a) - 1) (a + 1)
theorem qp_bd_0 (t : Nat → Nat) (o a : Nat) : qp_bd t 0 o a = a := rfl
theorem qp_bd_s (t : Nat → Nat) (f o a : Nat) : qp_bd t (f + 1) o a = if o = 0 then a else qp_bd t f (o + qp_ar (t a) - 1) (a + 1) := rfl
def qp_bh (t : Nat → Nat) (s k : Nat) : Nat := qp_bd t (s - k) 1 k
theorem qp_bd_le (t : Nat → Nat) : ∀ f o a, qp_bd t f o a ≤ a + f
  | 0, _, a => Nat.le_refl a
  | f + 1, o, a => by
    rw [qp_bd_s]
    have h := qp_bd_le t f (o + qp_ar (t a) - 1) (a + 1)
    split <;> omega
theorem qp_bh_le (t : Nat → Nat) (s k : Nat) : qp_bh t s k ≤ k + (s - k) := qp_bd_le t _ _ _

def qp_V (t : Nat → Nat) (s : Nat) : Prop := ∀ k, k < s → 1 ≤ qp_op t k
def qp_E (t : Nat → Nat) (k e : Nat) : Prop := k < e ∧ qp_op t e + 1 = qp_op t k ∧ ∀ j, k ≤ j → j < e → qp_op t k ≤ qp_op t j
theorem qp_E_u {t : Nat → Nat} {k e e' : Nat} (h : qp_E t k e) (h' : qp_E t k e') : e = e' := by
  obtain ⟨a1, a2, a3⟩ := h
  obtain ⟨b1, b2, b3⟩ := h'
  rcases Nat.lt_trichotomy e e' with z | z | z
  · have := b3 e (by omega) z; omega
  · exact z
  · have := a3 e' (by omega) z; omega
theorem qp_bd_E {t : Nat → Nat} {s k : Nat} (hV : qp_V t s) (hw : qp_op t s = 0) (hk : k < s) : ∀ f o a, k ≤ a → a + f = s → o + qp_op t k = qp_op t a + 1 → (∀ j, k ≤ j → j < a → qp_op t k ≤ qp_op t j) → qp_E t k (qp_bd t f o a) ∧ qp_bd t f o a ≤ s := by
  have hk1 := hV k hk
  intro f
  induction f with
  | zero =>
    intro o a ha hs ho hm
    have e : a = s := by omega
    subst e
    rw [qp_bd_0]
    exact ⟨⟨hk, by omega, hm⟩, Nat.le_refl _⟩
  | succ f ih =>
    intro o a ha hs ho hm
    rw [qp_bd_s]
    by_cases z : o = 0
    · rw [if_pos z]
      have hne : a ≠ k := by intro e; subst e; omega
      exact ⟨⟨by omega, by omega, hm⟩, by omega⟩
    · rw [if_neg z]
      have ha1 := hV a (by omega)
      refine ih _ (a + 1) (by omega) (by omega) ?_ ?_
      · rw [qp_op_s]; omega
      · intro j h1 h2
        by_cases e : j = a
        · subst e; omega
        · exact hm j h1 (by omega)
theorem qp_bh_E {t : Nat → Nat} {s k : Nat} (hV : qp_V t s) (hw : qp_op t s = 0) (hk : k < s) : qp_E t k (qp_bh t s k) ∧ qp_bh t s k ≤ s :=
  qp_bd_E hV hw hk (s - k) 1 k (Nat.le_refl k) (by omega) (by omega) (fun j h1 h2 => by omega)
theorem qp_bh_gt {t : Nat → Nat} {s k : Nat} (hV : qp_V t s) (hw : qp_op t s = 0) (hk : k < s) : k < qp_bh t s k := (qp_bh_E hV hw hk).1.1
theorem qp_bh_of {t : Nat → Nat} {s k e : Nat} (hV : qp_V t s) (hw : qp_op t s = 0) (hk : k < s) (h : qp_E t k e) : qp_bh t s k = e := qp_E_u (qp_bh_E hV hw hk).1 h
theorem qp_bh_0 {t : Nat → Nat} {s k : Nat} (hV : qp_V t s) (hw : qp_op t s = 0) (hk : k < s) (ha : qp_ar (t k) = 0) : qp_bh t s k = k + 1 := by
  have h1 := hV k hk
  refine qp_bh_of hV hw hk ⟨by omega, ?_, ?_⟩
  · rw [qp_op_s]; omega
  · intro j h2 h3
    have e : j = k := by omega
    rw [e]; exact Nat.le_refl _
theorem qp_nx {t : Nat → Nat} {s k : Nat} (hV : qp_V t s) (hw : qp_op t s = 0) (hk : k < s) (ha : 1 ≤ qp_ar (t k)) : k + 1 < s := by
  have h1 := hV k hk
  have h2 := qp_op_s t k
  by_cases e : k + 1 = s
  · rw [e, hw] at h2; omega
  · omega
theorem qp_bh_1 {t : Nat → Nat} {s k : Nat} (hV : qp_V t s) (hw : qp_op t s = 0) (hk : k < s) (ha : qp_ar (t k) = 1) : qp_bh t s k = qp_bh t s (k + 1) := by
  have h1 := hV k hk
  have hk2 := qp_nx hV hw hk (by omega)
  have h2 := qp_op_s t k
  obtain ⟨⟨a1, a2, a3⟩, a4⟩ := qp_bh_E hV hw hk2
  refine qp_bh_of hV hw hk ⟨by omega, by omega, ?_⟩
  intro j h3 h4
  by_cases e : j = k
  · rw [e]; exact Nat.le_refl _
  · have := a3 j (by omega) h4; omega
theorem qp_bh_2 {t : Nat → Nat} {s k : Nat} (hV : qp_V t s) (hw : qp_op t s = 0) (hk : k < s) (ha : qp_ar (t k) = 2) : qp_bh t s (k + 1) < s ∧ qp_bh t s k = qp_bh t s (qp_bh t s (k + 1)) := by
  have h1 := hV k hk
  have hk2 := qp_nx hV hw hk (by omega)
  have h2 := qp_op_s t k
  obtain ⟨⟨a1, a2, a3⟩, a4⟩ := qp_bh_E hV hw hk2
  have hlt : qp_bh t s (k + 1) < s := by
    by_cases e : qp_bh t s (k + 1) = s
    · rw [e, hw] at a2; omega
    · omega
  obtain ⟨⟨b1, b2, b3⟩, b4⟩ := qp_bh_E hV hw hlt
  refine ⟨hlt, qp_bh_of hV hw hk ⟨by omega, by omega, ?_⟩⟩
  intro j h3 h4
  by_cases e : j = k
  · rw [e]; exact Nat.le_refl _
  · by_cases e2 : j < qp_bh t s (k + 1)
    · have := a3 j (by omega) e2; omega
    · have := b3 j (by omega) h4; omega

/-- one token laid -/
def qp_st (t : Nat → Nat) (s x a : Nat) : Option Nat := if x = 7 then some (qp_bh t s a) else if a < s ∧ t a = x then some (a + 1) else none
theorem qp_st_7 (t : Nat → Nat) (s a : Nat) : qp_st t s 7 a = some (qp_bh t s a) := if_pos rfl
theorem qp_st_y {t : Nat → Nat} {s x a : Nat} (h : ¬ x = 7) (h1 : a < s) (h2 : t a = x) : qp_st t s x a = some (a + 1) := by
  unfold qp_st; rw [if_neg h, if_pos ⟨h1, h2⟩]
theorem qp_st_n {t : Nat → Nat} {s x a : Nat} (h : ¬ x = 7) (h1 : ¬ (a < s ∧ t a = x)) : qp_st t s x a = none := by
  unfold qp_st; rw [if_neg h, if_neg h1]
def qp_ly (tp t : Nat → Nat) (s n : Nat) : Nat → Option Nat
  | 0 => some n
  | i + 1 => (qp_ly tp t s n i).bind (qp_st t s (tp i))
theorem qp_ly_0 (tp t : Nat → Nat) (s n : Nat) : qp_ly tp t s n 0 = some n := rfl
theorem qp_ly_s (tp t : Nat → Nat) (s n i : Nat) : qp_ly tp t s n (i + 1) = (qp_ly tp t s n i).bind (qp_st t s (tp i)) := rfl
theorem qp_ly_ss {tp t : Nat → Nat} {s n i a : Nat} (h : qp_ly tp t s n i = some a) : qp_ly tp t s n (i + 1) = qp_st t s (tp i) a := by
  rw [qp_ly_s, h]; rfl
theorem qp_ly_sn {tp t : Nat → Nat} {s n i : Nat} (h : qp_ly tp t s n i = none) : qp_ly tp t s n (i + 1) = none := by
  rw [qp_ly_s, h]; rfl
theorem qp_ly_nn {tp t : Nat → Nat} {s n i : Nat} (h : qp_ly tp t s n i = none) : ∀ j, qp_ly tp t s n (i + j) = none
  | 0 => h
  | j + 1 => qp_ly_sn (qp_ly_nn h j)
theorem qp_ly_some {tp t : Nat → Nat} {s n i m : Nat} (h : i ≤ m) (hm : (qp_ly tp t s n m).isSome = true) : ∃ a, qp_ly tp t s n i = some a := by
  cases e : qp_ly tp t s n i with
  | some a => exact ⟨a, rfl⟩
  | none =>
    have := qp_ly_nn e (m - i)
    rw [show i + (m - i) = m by omega] at this
    rw [this] at hm
    exact absurd hm (by decide)
theorem qp_ly_add (tp t : Nat → Nat) (s n i : Nat) : ∀ j, qp_ly tp t s n (i + j) = (qp_ly tp t s n i).bind (fun a => qp_ly (fun x => tp (i + x)) t s a j)
  | 0 => by
    cases e : qp_ly tp t s n i with
    | none => rfl
    | some a => rfl
  | j + 1 => by
    have ih := qp_ly_add tp t s n i j
    show (qp_ly tp t s n (i + j)).bind (qp_st t s (tp (i + j))) = _
    rw [ih]
    cases e : qp_ly tp t s n i with
    | none => rfl
    | some a => rfl
theorem qp_ly_le {tp t : Nat → Nat} {s n : Nat} : ∀ i a, qp_ly tp t s n i = some a → a ≤ n ∨ a ≤ s
  | 0, a, h => by
    have e : n = a := Option.some.inj h
    exact Or.inl (by omega)
  | i + 1, a, h => by
    cases e : qp_ly tp t s n i with
    | none => rw [qp_ly_sn e] at h; exact absurd h (by simp)
    | some b =>
      have ih := qp_ly_le i b e
      rw [qp_ly_ss e] at h
      unfold qp_st at h
      split at h
      · have e2 := Option.some.inj h
        have := qp_bh_le t s b
        omega
      · split at h
        · have e2 := Option.some.inj h
          omega
        · exact absurd h (by simp)

/-- a part of a pattern laid over a list: where it stands -/
theorem qp_scan {tp t : Nat → Nat} {sp s n k e : Nat} (hVp : qp_V tp sp) (hV : qp_V t s) (hw : qp_op t s = 0) (hn : n < s) (hE : qp_E tp k e) (he : e ≤ sp) :
    ∀ i a, k + i ≤ e → qp_ly (fun x => tp (k + x)) t s n i = some a → n ≤ a ∧ a ≤ s ∧ qp_op tp (k + i) + qp_op t n = qp_op t a + qp_op tp k ∧ ∀ j, n ≤ j → j < a → qp_op t n ≤ qp_op t j := by
  obtain ⟨e1, e2, e3⟩ := hE
  have hn1 := hV n hn
  intro i
  induction i with
  | zero =>
    intro a hi h
    have ea : n = a := Option.some.inj h
    subst ea
    exact ⟨Nat.le_refl _, by omega, by rw [Nat.add_zero]; omega, fun j h1 h2 => by omega⟩
  | succ i ih =>
    intro a hi h
    cases eb : qp_ly (fun x => tp (k + x)) t s n i with
    | none => rw [qp_ly_sn eb] at h; exact absurd h (by simp)
    | some b =>
      obtain ⟨c1, c2, c3, c4⟩ := ih b (by omega) eb
      rw [qp_ly_ss eb] at h
      have d1 := e3 (k + i) (by omega) (by omega)
      have d0 := hVp (k + i) (by omega)
      have hb : b < s := by
        by_cases z : b = s
        · rw [z, hw] at c3; omega
        · omega
      have hb1 := hV b hb
      have os := qp_op_s tp (k + i)
      rw [← Nat.add_assoc]
      by_cases z : tp (k + i) = 7
      · have h' : qp_st t s (tp (k + i)) b = some a := h
        rw [z, qp_st_7] at h'
        have ea := Option.some.inj h'
        obtain ⟨⟨f1, f2, f3⟩, f4⟩ := qp_bh_E hV hw hb
        rw [ea] at f1 f2 f3 f4
        rw [z, qp_ar0 (by decide)] at os
        refine ⟨by omega, f4, by omega, ?_⟩
        intro j h1 h2
        by_cases y : j < b
        · exact c4 j h1 y
        · have := f3 j (by omega) h2; omega
      · have h' : qp_st t s (tp (k + i)) b = some a := h
        by_cases y : b < s ∧ t b = tp (k + i)
        · rw [qp_st_y z y.1 y.2] at h'
          have ea := Option.some.inj h'
          have os2 := qp_op_s t b
          rw [y.2] at os2
          subst ea
          refine ⟨by omega, by omega, by omega, ?_⟩
          intro j h1 h2
          by_cases x : j < b
          · exact c4 j h1 x
          · have : j = b := by omega
            subst this; omega
        · rw [qp_st_n z y] at h'
          exact absurd h' (by simp)
theorem qp_scan_end {tp t : Nat → Nat} {sp s n k e a : Nat} (hVp : qp_V tp sp) (hV : qp_V t s) (hw : qp_op t s = 0) (hn : n < s) (hE : qp_E tp k e) (he : e ≤ sp) (h : qp_ly (fun x => tp (k + x)) t s n (e - k) = some a) : a = qp_bh t s n := by
  have hlt := hE.1
  have h2 := hE.2.1
  obtain ⟨c1, c2, c3, c4⟩ := qp_scan hVp hV hw hn hE he (e - k) a (by omega) h
  rw [show k + (e - k) = e by omega] at c3
  have hne : n ≠ a := by intro z; subst z; omega
  exact (qp_bh_of hV hw hn ⟨by omega, by omega, c4⟩).symm
theorem qp_scan_in {tp t : Nat → Nat} {sp s n k e a i : Nat} (hVp : qp_V tp sp) (hV : qp_V t s) (hw : qp_op t s = 0) (hn : n < s) (hE : qp_E tp k e) (he : e ≤ sp) (hi : k + i < e) (h : qp_ly (fun x => tp (k + x)) t s n i = some a) : a < s := by
  obtain ⟨c1, c2, c3, c4⟩ := qp_scan hVp hV hw hn hE he i a (by omega) h
  have h3 := hE.2.2 (k + i) (by omega) hi
  have hn1 := hV n hn
  by_cases z : a = s
  · rw [z, hw] at c3; omega
  · omega
theorem qp_E_all {t : Nat → Nat} {s : Nat} (hV : qp_V t s) (hw : qp_op t s = 0) : qp_E t 0 s := by
  have h0 : s ≠ 0 := by intro z; subst z; rw [qp_op_0] at hw; omega
  exact ⟨by omega, by rw [hw]; rfl, fun j _ h2 => hV j h2⟩
theorem qp_pos {t : Nat → Nat} {s : Nat} (hw : qp_op t s = 0) : 0 < s := by
  rcases Nat.eq_zero_or_pos s with z | z
  · subst z; rw [qp_op_0] at hw; omega
  · exact z
theorem qp_ly_in {tp t : Nat → Nat} {sp s n a i : Nat} (hVp : qp_V tp sp) (hwp : qp_op tp sp = 0) (hV : qp_V t s) (hw : qp_op t s = 0) (hn : n < s) (hi : i < sp) (h : qp_ly tp t s n i = some a) : a < s := by
  refine qp_scan_in (k := 0) (i := i) hVp hV hw hn (qp_E_all hVp hwp) (Nat.le_refl _) (by omega) ?_
  have e : (fun x => tp (0 + x)) = tp := funext (fun x => by rw [Nat.zero_add])
  rw [e]; exact h

/-- the part of the pattern at k fits the node n -/
def qp_M (tp : Nat → Nat) (sp : Nat) (t : Nat → Nat) (s k n : Nat) : Prop := (qp_ly (fun x => tp (k + x)) t s n (qp_bh tp sp k - k)).isSome = true
theorem qp_M_ly {tp t : Nat → Nat} {sp s k n : Nat} (hVp : qp_V tp sp) (hwp : qp_op tp sp = 0) (hV : qp_V t s) (hw : qp_op t s = 0) (hk : k < sp) (hn : n < s) : qp_M tp sp t s k n ↔ qp_ly (fun x => tp (k + x)) t s n (qp_bh tp sp k - k) = some (qp_bh t s n) := by
  constructor
  · intro h
    obtain ⟨a, ea⟩ := qp_ly_some (Nat.le_refl _) h
    obtain ⟨hE, hl⟩ := qp_bh_E hVp hwp hk
    rw [ea, qp_scan_end hVp hV hw hn hE hl ea]
  · intro h
    unfold qp_M; rw [h]; rfl
theorem qp_sh (tp : Nat → Nat) (k i : Nat) : (fun x => (fun y => tp (k + y)) (i + x)) = (fun x => tp (k + i + x)) := funext (fun x => congrArg tp (by omega))
theorem qp_M_7 {tp t : Nat → Nat} {sp s k n : Nat} (hVp : qp_V tp sp) (hwp : qp_op tp sp = 0) (hk : k < sp) (h7 : tp k = 7) : qp_M tp sp t s k n := by
  unfold qp_M
  rw [qp_bh_0 hVp hwp hk (by rw [h7]; exact qp_ar0 (by decide)), show k + 1 - k = 0 + 1 by omega, qp_ly_ss (qp_ly_0 _ _ _ _)]
  show (qp_st t s (tp k) n).isSome = true
  rw [h7, qp_st_7]; rfl
theorem qp_M_first {tp t : Nat → Nat} {sp s k n : Nat} (hVp : qp_V tp sp) (hwp : qp_op tp sp = 0) (hk : k < sp) (h7 : ¬ tp k = 7) (h : qp_M tp sp t s k n) : n < s ∧ t n = tp k := by
  have hg := qp_bh_gt hVp hwp hk
  obtain ⟨a, ea⟩ := qp_ly_some (i := 0 + 1) (by omega) h
  rw [qp_ly_ss (qp_ly_0 _ _ _ _)] at ea
  have ea' : qp_st t s (tp k) n = some a := ea
  by_cases y : n < s ∧ t n = tp k
  · exact y
  · rw [qp_st_n h7 y] at ea'; exact absurd ea' (by simp)
theorem qp_ly_1 {tp t : Nat → Nat} {s k n : Nat} (h7 : ¬ tp k = 7) (hn : n < s) (h : t n = tp k) : qp_ly (fun x => tp (k + x)) t s n 1 = some (n + 1) := by
  rw [show (1 : Nat) = 0 + 1 from rfl, qp_ly_ss (qp_ly_0 _ _ _ _)]
  exact qp_st_y h7 hn h
theorem qp_ly_add1 {tp t : Nat → Nat} {s k n m : Nat} (h7 : ¬ tp k = 7) (hn : n < s) (h : t n = tp k) : qp_ly (fun x => tp (k + x)) t s n (1 + m) = qp_ly (fun x => tp (k + 1 + x)) t s (n + 1) m := by
  rw [qp_ly_add, qp_ly_1 h7 hn h, qp_sh]; rfl
theorem qp_M_0 {tp t : Nat → Nat} {sp s k n : Nat} (hVp : qp_V tp sp) (hwp : qp_op tp sp = 0) (hk : k < sp) (h7 : ¬ tp k = 7) (hn : n < s) (h : t n = tp k) (ha : qp_ar (tp k) = 0) : qp_M tp sp t s k n := by
  unfold qp_M
  rw [qp_bh_0 hVp hwp hk ha, show k + 1 - k = 1 by omega, qp_ly_1 h7 hn h]; rfl
theorem qp_M_1 {tp t : Nat → Nat} {sp s k n : Nat} (hVp : qp_V tp sp) (hwp : qp_op tp sp = 0) (hk : k < sp) (h7 : ¬ tp k = 7) (hn : n < s) (h : t n = tp k) (ha : qp_ar (tp k) = 1) : qp_M tp sp t s k n ↔ qp_M tp sp t s (k + 1) (n + 1) := by
  have hk2 := qp_nx hVp hwp hk (by omega)
  have hg := qp_bh_gt hVp hwp hk2
  unfold qp_M
  rw [qp_bh_1 hVp hwp hk ha, show qp_bh tp sp (k + 1) - k = 1 + (qp_bh tp sp (k + 1) - (k + 1)) by omega, qp_ly_add1 h7 hn h]
theorem qp_M_2 {tp t : Nat → Nat} {sp s k n : Nat} (hVp : qp_V tp sp) (hwp : qp_op tp sp = 0) (hV : qp_V t s) (hw : qp_op t s = 0) (hk : k < sp) (h7 : ¬ tp k = 7) (hn : n < s) (h : t n = tp k) (ha : qp_ar (tp k) = 2) : qp_M tp sp t s k n ↔ qp_M tp sp t s (k + 1) (n + 1) ∧ qp_M tp sp t s (qp_bh tp sp (k + 1)) (qp_bh t s (n + 1)) := by
  have hk2 := qp_nx hVp hwp hk (by omega)
  have hn2 := qp_nx hV hw hn (by rw [h]; omega)
  have hg := qp_bh_gt hVp hwp hk2
  obtain ⟨hk3, hb⟩ := qp_bh_2 hVp hwp hk ha
  have hg3 := qp_bh_gt hVp hwp hk3
  have e1 : qp_M tp sp t s k n ↔ (qp_ly (fun x => tp (k + 1 + x)) t s (n + 1) ((qp_bh tp sp (k + 1) - (k + 1)) + (qp_bh tp sp (qp_bh tp sp (k + 1)) - qp_bh tp sp (k + 1)))).isSome = true := by
    unfold qp_M
    rw [hb, show qp_bh tp sp (qp_bh tp sp (k + 1)) - k = 1 + ((qp_bh tp sp (k + 1) - (k + 1)) + (qp_bh tp sp (qp_bh tp sp (k + 1)) - qp_bh tp sp (k + 1))) by omega, qp_ly_add1 h7 hn h]
  have hsh : (fun x => (fun y => tp (k + 1 + y)) (qp_bh tp sp (k + 1) - (k + 1) + x)) = (fun x => tp (qp_bh tp sp (k + 1) + x)) := funext (fun x => congrArg tp (by omega))
  rw [e1, qp_ly_add, hsh]
  constructor
  · intro z
    cases eq : qp_ly (fun x => tp (k + 1 + x)) t s (n + 1) (qp_bh tp sp (k + 1) - (k + 1)) with
    | none => rw [eq] at z; exact absurd z (by simp)
    | some a =>
      have hM : qp_M tp sp t s (k + 1) (n + 1) := by unfold qp_M; rw [eq]; rfl
      have h3 := (qp_M_ly hVp hwp hV hw hk2 hn2).mp hM
      refine ⟨hM, ?_⟩
      rw [h3] at z
      exact z
  · intro ⟨z1, z2⟩
    rw [(qp_M_ly hVp hwp hV hw hk2 hn2).mp z1]
    exact z2
theorem qp_M_all {tp t : Nat → Nat} {sp s n : Nat} (hVp : qp_V tp sp) (hwp : qp_op tp sp = 0) : qp_M tp sp t s 0 n ↔ (qp_ly tp t s n sp).isSome = true := by
  have e : (fun x => tp (0 + x)) = tp := funext (fun x => by rw [Nat.zero_add])
  unfold qp_M
  rw [e, qp_bh_of hVp hwp (qp_pos hwp) (qp_E_all hVp hwp), Nat.sub_zero]

/-- equal parts -/
def qp_Q (t : Nat → Nat) (s a b : Nat) : Prop := qp_bh t s a - a = qp_bh t s b - b ∧ ∀ j, j < qp_bh t s a - a → t (a + j) = t (b + j)
theorem qp_Q_r (t : Nat → Nat) (s a : Nat) : qp_Q t s a a := ⟨rfl, fun _ _ => rfl⟩
theorem qp_Q_s {t : Nat → Nat} {s a b : Nat} (h : qp_Q t s a b) : qp_Q t s b a := ⟨h.1.symm, fun j hj => (h.2 j (by rw [h.1]; exact hj)).symm⟩
theorem qp_Q_t {t : Nat → Nat} {s a b c : Nat} (h : qp_Q t s a b) (h' : qp_Q t s b c) : qp_Q t s a c := ⟨h.1.trans h'.1, fun j hj => (h.2 j hj).trans (h'.2 j (by rw [← h.1]; exact hj))⟩
theorem qp_E_tr {t : Nat → Nat} {s a b l : Nat} (hV : qp_V t s) (ha : a + l ≤ s) (hb : b + l ≤ s) (hE : qp_E t a (a + l)) (h : ∀ j, j < l → t (a + j) = t (b + j)) : qp_E t b (b + l) := by
  have key : ∀ i, i ≤ l → qp_op t (b + i) + qp_op t a = qp_op t (a + i) + qp_op t b := by
    intro i
    induction i with
    | zero => intro _; rw [Nat.add_zero, Nat.add_zero]; omega
    | succ i ih =>
      intro hi
      have h1 := ih (by omega)
      have h2 := hV (a + i) (by omega)
      have h3 := hV (b + i) (by omega)
      rw [← Nat.add_assoc, ← Nat.add_assoc, qp_op_s, qp_op_s, h i (by omega)]
      omega
  obtain ⟨e1, e2, e3⟩ := hE
  have hl := key l (Nat.le_refl _)
  refine ⟨by omega, by omega, ?_⟩
  intro j h1 h2
  have h3 := key (j - b) (by omega)
  have h4 := e3 (a + (j - b)) (by omega) (by omega)
  rw [show b + (j - b) = j by omega] at h3
  omega
theorem qp_bh_tr {t : Nat → Nat} {s a b : Nat} (hV : qp_V t s) (hw : qp_op t s = 0) (ha : a < s) (hb : b < s) (hl : b + (qp_bh t s a - a) ≤ s) (h : ∀ j, j < qp_bh t s a - a → t (a + j) = t (b + j)) : qp_Q t s a b := by
  obtain ⟨hE, h1⟩ := qp_bh_E hV hw ha
  have hg := hE.1
  have e : a + (qp_bh t s a - a) = qp_bh t s a := by omega
  have h2 := qp_E_tr hV (by omega) hl (by rw [e]; exact hE) h
  have h3 := qp_bh_of hV hw hb h2
  exact ⟨by omega, h⟩
theorem qp_Q_hd {t : Nat → Nat} {s a b : Nat} (hV : qp_V t s) (hw : qp_op t s = 0) (ha : a < s) (h : qp_Q t s a b) : t a = t b := h.2 0 (by have := qp_bh_gt hV hw ha; omega)
theorem qp_Q_1 {t : Nat → Nat} {s a b : Nat} (hV : qp_V t s) (hw : qp_op t s = 0) (ha : a < s) (hb : b < s) (he : t a = t b) (hr : qp_ar (t a) = 1) : qp_Q t s a b ↔ qp_Q t s (a + 1) (b + 1) := by
  have ha2 := qp_nx hV hw ha (by omega)
  have hb2 := qp_nx hV hw hb (by rw [← he]; omega)
  have e1 := qp_bh_1 hV hw ha hr
  have e2 := qp_bh_1 hV hw hb (by rw [← he]; exact hr)
  have g1 := qp_bh_gt hV hw ha2
  have g2 := qp_bh_gt hV hw hb2
  have l2 := (qp_bh_E hV hw hb2).2
  constructor
  · intro h
    refine qp_bh_tr hV hw ha2 hb2 (by have := h.1; omega) ?_
    intro j hj
    have := h.2 (j + 1) (by omega)
    rw [show a + 1 + j = a + (j + 1) by omega, show b + 1 + j = b + (j + 1) by omega]
    exact this
  · intro h
    refine ⟨by have := h.1; omega, ?_⟩
    intro j hj
    cases j with
    | zero => exact he
    | succ j =>
      have := h.2 j (by omega)
      rw [show a + (j + 1) = a + 1 + j by omega, show b + (j + 1) = b + 1 + j by omega]
      exact this
theorem qp_Q_0 {t : Nat → Nat} {s a b : Nat} (hV : qp_V t s) (hw : qp_op t s = 0) (ha : a < s) (hb : b < s) (he : t a = t b) (hr : qp_ar (t a) = 0) : qp_Q t s a b := by
  have e1 := qp_bh_0 hV hw ha hr
  have e2 := qp_bh_0 hV hw hb (by rw [← he]; exact hr)
  refine ⟨by omega, ?_⟩
  intro j hj
  have : j = 0 := by omega
  subst this; exact he
theorem qp_Q_2 {t : Nat → Nat} {s a b : Nat} (hV : qp_V t s) (hw : qp_op t s = 0) (ha : a < s) (hb : b < s) (he : t a = t b) (hr : qp_ar (t a) = 2) : qp_Q t s a b ↔ qp_Q t s (a + 1) (b + 1) ∧ qp_Q t s (qp_bh t s (a + 1)) (qp_bh t s (b + 1)) := by
  have ha2 := qp_nx hV hw ha (by omega)
  have hb2 := qp_nx hV hw hb (by rw [← he]; omega)
  obtain ⟨ha3, e1⟩ := qp_bh_2 hV hw ha hr
  obtain ⟨hb3, e2⟩ := qp_bh_2 hV hw hb (by rw [← he]; exact hr)
  have g1 := qp_bh_gt hV hw ha2
  have g2 := qp_bh_gt hV hw hb2
  have g3 := qp_bh_gt hV hw ha3
  have g4 := qp_bh_gt hV hw hb3
  have l2 := (qp_bh_E hV hw hb3).2
  constructor
  · intro h
    have hl := h.1
    have q1 : qp_Q t s (a + 1) (b + 1) := by
      refine qp_bh_tr hV hw ha2 hb2 (by omega) ?_
      intro j hj
      have := h.2 (j + 1) (by omega)
      rw [show a + 1 + j = a + (j + 1) by omega, show b + 1 + j = b + (j + 1) by omega]
      exact this
    have hl1 := q1.1
    refine ⟨q1, qp_bh_tr hV hw ha3 hb3 (by omega) ?_⟩
    intro j hj
    have := h.2 (qp_bh t s (a + 1) - a + j) (by omega)
    rw [show a + (qp_bh t s (a + 1) - a + j) = qp_bh t s (a + 1) + j by omega, show b + (qp_bh t s (a + 1) - a + j) = qp_bh t s (b + 1) + j by omega] at this
    exact this
  · intro ⟨h1, h2⟩
    have hl1 := h1.1
    have hl2 := h2.1
    refine ⟨by omega, ?_⟩
    intro j hj
    cases j with
    | zero => exact he
    | succ j =>
      by_cases z : j < qp_bh t s (a + 1) - (a + 1)
      · have := h1.2 j z
        rw [show a + (j + 1) = a + 1 + j by omega, show b + (j + 1) = b + 1 + j by omega]
        exact this
      · have := h2.2 (a + 1 + j - qp_bh t s (a + 1)) (by omega)
        rw [show qp_bh t s (a + 1) + (a + 1 + j - qp_bh t s (a + 1)) = a + (j + 1) by omega, show qp_bh t s (b + 1) + (a + 1 + j - qp_bh t s (a + 1)) = b + (j + 1) by omega] at this
        exact this
end
section
/-! numbers -/
theorem qa_m {n : Nat} {P : Nat → Prop} (h : ∀ m, n = m + 1 → P (m + 1)) (hn : 0 < n) : P n := by
  obtain ⟨m, rfl⟩ : ∃ m, n = m + 1 := ⟨n - 1, by omega⟩
  exact h m rfl
theorem qa_need' {o a : Nat} (h : 1 ≤ o) : (nI o - 1) + nI a = nI (o + a - 1) := by
  obtain ⟨c, rfl⟩ : ∃ c, o = c + 1 := ⟨o - 1, by omega⟩
  rw [nI_pred, nI_add, show c + 1 + a - 1 = c + a by omega]
theorem qa_need {o a : Nat} (h : 1 ≤ o) : nI o + (nI a - 1) = nI (o + a - 1) := by
  rw [← qa_need' h, Int32.sub_eq_add_neg, Int32.sub_eq_add_neg, ← Int32.add_assoc, Int32.add_assoc (nI o) (nI a), Int32.add_comm (nI a), ← Int32.add_assoc]
theorem qa_25 (l k : Nat) : (25 : Int32) * nI l + nI k = nI (25 * l + k) := by
  rw [show (25 : Int32) = nI 25 from rfl, pk_mul, nI_add]
theorem qa_9 (p k : Nat) : nI p * 9 + nI k = nI (p * 9 + k) := by
  rw [show (9 : Int32) = nI 9 from rfl, pk_mul, nI_add]
theorem qa_lt0 {x : Int32} (h : x < 0) (n : Nat) (hn : n < 2 ^ 31) : x < nI n := by
  rw [Int32.lt_iff_toInt_lt] at h ⊢
  rw [nI_toInt hn]
  have h0 : (0 : Int32).toInt = 0 := by decide
  omega
theorem qa_m1n : ((-1 : Int32) < 0) := by decide
theorem qa_byte {n : Nat} (h : n < 128) : vp_nar .byte (nI n) = nI n := by
  rw [vp_nar_byte]
  exact (by decide +kernel : ∀ n, n < 128 → (nI n).toInt8.toInt32 = nI n) n h
theorem qa_b8 {n : Nat} (h : n < 128) : (nI n).toInt8.toInt32 = nI n := (by decide +kernel : ∀ n, n < 128 → (nI n).toInt8.toInt32 = nI n) n h
theorem qa_bb {n : Nat} (h : n < 128) : vp_nar .byte (nI n).toInt8.toInt32 = nI n := by rw [qa_b8 h, qa_byte h]

/-! the two objects' lists: tokens T l k, sizes S l; list 4 is the subject -/
def qg_V (T : Nat → Nat → Nat) (S : Nat → Nat) : Prop :=
  (∀ l, l < 4 → S l ≤ 9) ∧ S 4 ≤ 25 ∧ (∀ l, l < 4 → ∀ k, k < S l → T l k ≤ 7) ∧ (∀ k, k < S 4 → T 4 k ≤ 6) ∧ (∀ l, l < 5 → qp_V (T l) (S l))
def qg_H (T : Nat → Nat → Nat) (S : Nat → Nat) (bS bT : Nat → Int32) : Prop :=
  (∀ l, l < 5 → bS l = nI (S l)) ∧ (∀ l, l < 5 → ∀ k, k < S l → bT (25 * l + k) = nI (T l k))
def qg_B (T : Nat → Nat → Nat) (S : Nat → Nat) (fc : Int32) (aS aT aU : Nat → Int32) : Prop :=
  fc = nI (S 4) ∧ (∀ p, p < 4 → aS p = nI (S p)) ∧ (∀ p, p < 4 → ∀ k, k < S p → aT (p * 9 + k) = nI (T p k)) ∧ (∀ k, k < S 4 → aU k = nI (T 4 k))

/-- bits of at most four patterns -/
def qz_F (b : Nat → Bool) : Nat → Int32
  | 0 => 0
  | p + 1 => if b p = true then qz_F b p ||| ((1 : Int32) <<< (nI p &&& 31)) else qz_F b p
theorem qz_F_t {b : Nat → Bool} {p : Nat} (h : b p = true) : qz_F b p ||| ((1 : Int32) <<< (nI p &&& 31)) = qz_F b (p + 1) := (if_pos h).symm
theorem qz_F_f {b : Nat → Bool} {p : Nat} (h : b p = false) : qz_F b p = qz_F b (p + 1) := by
  show _ = if b p = true then _ else _
  rw [h]; rfl
theorem qz_F_c {b b' : Nat → Bool} : ∀ n, (∀ p, p < n → b p = b' p) → qz_F b n = qz_F b' n
  | 0, _ => rfl
  | n + 1, h => by
    show (if b n = true then _ else _) = if b' n = true then _ else _
    rw [h n (by omega), qz_F_c n (fun p hp => h p (by omega))]
def qz_B (b0 b1 b2 b3 : Bool) : Nat → Bool
  | 0 => b0
  | 1 => b1
  | 2 => b2
  | _ => b3
theorem qz_F_B (b : Nat → Bool) : qz_F b 4 = qz_F (qz_B (b 0) (b 1) (b 2) (b 3)) 4 := by
  apply qz_F_c
  intro p hp
  match p, hp with
  | 0, _ => rfl
  | 1, _ => rfl
  | 2, _ => rfl
  | 3, _ => rfl
theorem qz_F_num : ∀ b0 b1 b2 b3 : Bool, ∃ j : Fin 16, qz_F (qz_B b0 b1 b2 b3) 4 = nI j.val := by decide +kernel
theorem qz_F_bit' : ∀ b0 b1 b2 b3 : Bool, ∀ p : Fin 4, ((qz_F (qz_B b0 b1 b2 b3) 4) >>> (nI p.val &&& 31)) &&& 1 = if qz_B b0 b1 b2 b3 p.val = true then 1 else 0 := by decide +kernel
theorem qz_F_n (b : Nat → Bool) : ∃ j, j < 16 ∧ qz_F b 4 = nI j := by
  obtain ⟨j, hj⟩ := qz_F_num (b 0) (b 1) (b 2) (b 3)
  exact ⟨j.val, j.isLt, (qz_F_B b).trans hj⟩
theorem qz_F_bit (b : Nat → Bool) {p : Nat} (hp : p < 4) : (qz_F b 4 >>> (nI p &&& 31)) &&& 1 = if b p = true then 1 else 0 := by
  have h := qz_F_bit' (b 0) (b 1) (b 2) (b 3) ⟨p, hp⟩
  rw [qz_F_B b]
  have e : qz_B (b 0) (b 1) (b 2) (b 3) p = b p := by
    match p, hp with
    | 0, _ => rfl
    | 1, _ => rfl
    | 2, _ => rfl
    | 3, _ => rfl
  rw [← e]; exact h
theorem qz_F_0 {b : Nat → Bool} (h : ∀ p, b p = false) : ∀ n, qz_F b n = 0
  | 0 => rfl
  | n + 1 => by rw [← qz_F_f (h n)]; exact qz_F_0 h n

/-! counts -/
def qz_cn (f : Nat → Bool) : Nat → Nat
  | 0 => 0
  | n + 1 => if f n = true then qz_cn f n + 1 else qz_cn f n
theorem qz_cn_t {f : Nat → Bool} {n : Nat} (h : f n = true) : qz_cn f (n + 1) = qz_cn f n + 1 := if_pos h
theorem qz_cn_f {f : Nat → Bool} {n : Nat} (h : f n = false) : qz_cn f (n + 1) = qz_cn f n := by
  show (if f n = true then _ else _) = _
  rw [h]; rfl
theorem qz_cn_le (f : Nat → Bool) : ∀ n, qz_cn f n ≤ n
  | 0 => Nat.le_refl 0
  | n + 1 => by
    have := qz_cn_le f n
    show (if f n = true then _ else _) ≤ _
    split <;> omega
theorem qz_cn_x {f : Nat → Bool} {s : Nat} (h : ∀ n, s ≤ n → f n = false) : ∀ d, qz_cn f (s + d) = qz_cn f s
  | 0 => rfl
  | d + 1 => (qz_cn_f (h (s + d) (by omega))).trans (qz_cn_x h d)
theorem qz_cn_c {f g : Nat → Bool} : ∀ n, (∀ k, k < n → f k = g k) → qz_cn f n = qz_cn g n
  | 0, _ => rfl
  | n + 1, h => by
    show (if f n = true then _ else _) = if g n = true then _ else _
    rw [h n (by omega), qz_cn_c n (fun k hk => h k (by omega))]
def qz_ex (f : Nat → Bool) : Nat → Bool
  | 0 => false
  | n + 1 => if qz_ex f n = true then true else f n
theorem qz_ex_t {f : Nat → Bool} {n : Nat} (h : qz_ex f n = true) : qz_ex f (n + 1) = true := if_pos h
theorem qz_ex_f {f : Nat → Bool} {n : Nat} (h : qz_ex f n = false) : qz_ex f (n + 1) = f n := by
  show (if qz_ex f n = true then _ else _) = _
  rw [h]; rfl
theorem qz_ex_i {f : Nat → Bool} : ∀ n, qz_ex f n = true ↔ ∃ k, k < n ∧ f k = true
  | 0 => ⟨fun h => absurd (show false = true from h) (by decide), fun ⟨k, h, _⟩ => absurd h (Nat.not_lt_zero k)⟩
  | n + 1 => by
    have ih := qz_ex_i (f := f) n
    cases e : qz_ex f n with
    | true =>
      rw [qz_ex_t e]
      obtain ⟨k, h1, h2⟩ := ih.mp e
      exact ⟨fun _ => ⟨k, by omega, h2⟩, fun _ => rfl⟩
    | false =>
      rw [qz_ex_f e]
      constructor
      · intro h; exact ⟨n, by omega, h⟩
      · intro ⟨k, h1, h2⟩
        by_cases z : k = n
        · rw [← z]; exact h2
        · have := ih.mpr ⟨k, by omega, h2⟩
          rw [e] at this; exact absurd this (by decide)
def qz_nx (f : Nat → Bool) : Nat → Nat → Int32
  | 0, _ => -1
  | d + 1, k => if f k = true then nI k else qz_nx f d (k + 1)
theorem qz_nx_0 {f : Nat → Bool} {k : Nat} : qz_nx f 0 k = -1 := rfl
theorem qz_nx_t {f : Nat → Bool} {d k : Nat} (h : f k = true) : qz_nx f (d + 1) k = nI k := if_pos h
theorem qz_nx_f {f : Nat → Bool} {d k : Nat} (h : f k = false) : qz_nx f (d + 1) k = qz_nx f d (k + 1) := by
  show (if f k = true then _ else _) = _
  rw [h]; rfl
theorem qz_nx_x {f : Nat → Bool} {s : Nat} (h : ∀ n, s ≤ n → f n = false) : ∀ d k, s ≤ k + d → qz_nx f d k = qz_nx f (s - k) k
  | 0, k, hk => by rw [show s - k = 0 by omega]
  | d + 1, k, hk => by
    by_cases z : k < s
    · obtain ⟨m, hm⟩ : ∃ m, s - k = m + 1 := ⟨s - k - 1, by omega⟩
      rw [hm]
      cases e : f k with
      | true => rw [qz_nx_t e, qz_nx_t e]
      | false => rw [qz_nx_f e, qz_nx_f e, qz_nx_x h d (k + 1) (by omega), show s - (k + 1) = m by omega]
    · rw [show s - k = 0 by omega, qz_nx_f (h k (by omega)), qz_nx_x h d (k + 1) (by omega), show s - (k + 1) = 0 by omega]; rfl
def qz_o : Option Nat → Int32
  | some a => nI a
  | none => -1
def qz_ga (tp : Nat → Nat) (ps : Nat → Int32) (x : Int32) : Nat → Nat → Nat → Int32
  | 0, _, _ => -1
  | d + 1, i, g => if tp i = 7 then (if nI g = x then ps i else qz_ga tp ps x d (i + 1) (g + 1)) else qz_ga tp ps x d (i + 1) g

/-- pattern p fits node n -/
def qg_fb (T : Nat → Nat → Nat) (S : Nat → Nat) (p n : Nat) : Bool := decide (qp_op (T p) (S p) = 0 ∧ qp_op (T 4) (S 4) = 0 ∧ n < S 4 ∧ (qp_ly (T p) (T 4) (S 4) n (S p)).isSome = true)
theorem qg_fb_t {T : Nat → Nat → Nat} {S : Nat → Nat} {p n : Nat} : qg_fb T S p n = true ↔ qp_op (T p) (S p) = 0 ∧ qp_op (T 4) (S 4) = 0 ∧ n < S 4 ∧ (qp_ly (T p) (T 4) (S 4) n (S p)).isSome = true := decide_eq_true_iff
theorem qg_fb_f {T : Nat → Nat → Nat} {S : Nat → Nat} {p n : Nat} (h : ¬ (qp_op (T p) (S p) = 0 ∧ qp_op (T 4) (S 4) = 0 ∧ n < S 4 ∧ (qp_ly (T p) (T 4) (S 4) n (S p)).isSome = true)) : qg_fb T S p n = false := decide_eq_false h
def qg_FF (T : Nat → Nat → Nat) (S : Nat → Nat) (n : Nat) : Int32 := qz_F (fun p => qg_fb T S p n) 4
theorem qg_FF_0 {T : Nat → Nat → Nat} {S : Nat → Nat} {n : Nat} (h : ¬ (qp_op (T 4) (S 4) = 0 ∧ n < S 4)) : qg_FF T S n = 0 := qz_F_0 (fun p => qg_fb_f (fun z => h ⟨z.2.1, z.2.2.1⟩)) 4
theorem qg_FF_bit {T : Nat → Nat → Nat} {S : Nat → Nat} {n p : Nat} (hp : p < 4) : (qg_FF T S n >>> (nI p &&& 31)) &&& 1 = if qg_fb T S p n = true then 1 else 0 := qz_F_bit (fun p => qg_fb T S p n) hp
def qg_kd (T : Nat → Nat → Nat) (S : Nat → Nat) (z n : Nat) : Bool := decide (qp_op (T 4) (S 4) = 0 ∧ n < S 4 ∧ qg_FF T S n = nI z)
theorem qg_S25 {T : Nat → Nat → Nat} {S : Nat → Nat} {l : Nat} (h : qg_V T S) (hl : l < 5) : S l ≤ 25 := by
  by_cases z : l < 4
  · have := h.1 l z; omega
  · have : l = 4 := by omega
    subst this; exact h.2.1
theorem qg_T7 {T : Nat → Nat → Nat} {S : Nat → Nat} {l k : Nat} (h : qg_V T S) (hl : l < 5) (hk : k < S l) : T l k ≤ 7 := by
  by_cases z : l < 4
  · exact h.2.2.1 l z k hk
  · have : l = 4 := by omega
    subst this
    have := h.2.2.2.1 k hk; omega
theorem qg_VV {T : Nat → Nat → Nat} {S : Nat → Nat} {l : Nat} (h : qg_V T S) (hl : l < 5) : qp_V (T l) (S l) := h.2.2.2.2 l hl

/-! a token put, a token taken -/
def qg_T' (T : Nat → Nat → Nat) (S : Nat → Nat) (l x : Nat) : Nat → Nat → Nat := fun m k => if m = l ∧ k = S l then x else T m k
def qg_S' (S : Nat → Nat) (l z : Nat) : Nat → Nat := fun m => if m = l then z else S m
theorem qg_S's {S : Nat → Nat} {l z : Nat} : qg_S' S l z l = z := if_pos rfl
theorem qg_S'n {S : Nat → Nat} {l z m : Nat} (h : ¬ m = l) : qg_S' S l z m = S m := if_neg h
theorem qg_T's {T : Nat → Nat → Nat} {S : Nat → Nat} {l x : Nat} : qg_T' T S l x l (S l) = x := if_pos ⟨rfl, rfl⟩
theorem qg_T'n {T : Nat → Nat → Nat} {S : Nat → Nat} {l x m k : Nat} (h : ¬ (m = l ∧ k = S l)) : qg_T' T S l x m k = T m k := if_neg h
theorem qg_put {T : Nat → Nat → Nat} {S : Nat → Nat} {l x : Nat} (h : qg_V T S) (hl : l < 5) (h0 : ¬ qp_op (T l) (S l) = 0) (hp : l < 4 → S l < 9 ∧ x ≤ 7) (hs : l = 4 → S l < 25 ∧ x ≤ 6) : qg_V (qg_T' T S l x) (qg_S' S l (S l + 1)) := by
  obtain ⟨h1, h2, h3, h4, h5⟩ := h
  refine ⟨?_, ?_, ?_, ?_, ?_⟩
  · intro m hm
    by_cases z : m = l
    · subst z; rw [qg_S's]; have := hp hm; omega
    · rw [qg_S'n z]; exact h1 m hm
  · by_cases z : 4 = l
    · subst z; rw [qg_S's]; have := hs rfl; omega
    · rw [qg_S'n z]; exact h2
  · intro m hm k hk
    by_cases z : m = l
    · subst z
      rw [qg_S's] at hk
      by_cases y : k = S m
      · subst y; rw [qg_T's]; exact (hp hm).2
      · rw [qg_T'n (fun w => y w.2)]; exact h3 m hm k (by omega)
    · rw [qg_S'n z] at hk
      rw [qg_T'n (fun w => z w.1)]; exact h3 m hm k hk
  · intro k hk
    by_cases z : 4 = l
    · subst z
      rw [qg_S's] at hk
      by_cases y : k = S 4
      · subst y; rw [qg_T's]; exact (hs rfl).2
      · rw [qg_T'n (fun w => y w.2)]; exact h4 k (by omega)
    · rw [qg_S'n z] at hk
      rw [qg_T'n (fun w => z w.1)]; exact h4 k hk
  · intro m hm k hk
    by_cases z : m = l
    · subst z
      rw [qg_S's] at hk
      rw [qp_op_cong (t' := T m) k (fun j hj => qg_T'n (fun w => by omega))]
      by_cases y : k = S m
      · rw [y]; omega
      · exact h5 m hm k (by omega)
    · rw [qg_S'n z] at hk
      rw [qp_op_cong (t' := T m) k (fun j hj => qg_T'n (fun w => z w.1))]
      exact h5 m hm k hk
theorem qg_take {T : Nat → Nat → Nat} {S : Nat → Nat} {l : Nat} (h : qg_V T S) : qg_V T (qg_S' S l (S l - 1)) := by
  have hle : ∀ m, qg_S' S l (S l - 1) m ≤ S m := by
    intro m
    by_cases z : m = l
    · subst z; rw [qg_S's]; omega
    · rw [qg_S'n z]; exact Nat.le_refl _
  obtain ⟨h1, h2, h3, h4, h5⟩ := h
  exact ⟨fun m hm => Nat.le_trans (hle m) (h1 m hm), Nat.le_trans (hle 4) h2, fun m hm k hk => h3 m hm k (Nat.lt_of_lt_of_le hk (hle m)), fun k hk => h4 k (Nat.lt_of_lt_of_le hk (hle 4)), fun m hm k hk => h5 m hm k (Nat.lt_of_lt_of_le hk (hle m))⟩
end
section
section QY
variable {T : Nat → Nat → Nat} {S : Nat → Nat} {bS bT : Nat → Int32}
theorem qy_sz {l : Nat} (hH : qg_H T S bS bT) (hl : l < 5) : bS (nI l).toNatClampNeg = nI (S l) := by
  rw [nI_clamp (by omega)]; exact hH.1 l hl
theorem qy_tk {l k : Nat} (hV : qg_V T S) (hH : qg_H T S bS bT) (hl : l < 5) (hk : k < S l) : bT ((25 : Int32) * nI l + nI k).toNatClampNeg = nI (T l k) := by
  have := qg_S25 hV hl
  rw [qa_25, nI_clamp (by omega)]; exact hH.2 l hl k hk
theorem qy_in {l k : Nat} (hl : l < 5) (hk : k < 25) : vp_in ((25 : Int32) * nI l + nI k) 125 := by
  rw [qa_25]; exact vp_in_nI (by omega) (by omega)
theorem qy_parts {x : Nat} {post : Int32 → Prop} (hx : x ≤ 7) (h : post (nI (qp_ar x))) : wpY_parts post (bS, bT) (nI x) := by
  refine pk_lt 1 x (fun h1 => pk_lt 3 x (fun h3 => ?_) (fun h3 => ?_)) (fun h1 => ?_)
  · rw [qp_ar0 (by omega)] at h; exact h
  · rw [qp_ar1 (by omega) (by omega)] at h; exact h
  · rw [qp_ar2 (by omega)] at h; exact h
theorem qy_done4 {l : Nat} {post : Int32 → Prop} (hV : qg_V T S) (hH : qg_H T S bS bT) (hl : l < 5) (h1 : qp_op (T l) (S l) = 0 → post 1) (h0 : ¬ qp_op (T l) (S l) = 0 → post 0) :
    ∀ d k, k + d = S l → ∀ n, d < n → wY_done_4 post (nI l) bS bT n (nI (qp_op (T l) k)) (nI k) := by
  have hs := qy_sz hH hl
  have hS := qg_S25 hV hl
  intro d
  induction d with
  | zero =>
    intro k hk n hn
    obtain ⟨m, rfl⟩ : ∃ m, n = m + 1 := ⟨n - 1, by omega⟩
    have hk' : k = S l := by omega
    subst hk'
    have ho := qp_op_le (T l) (S l)
    refine And.intro (vp_in_nI hl (by decide)) (br_t ?_ ?_)
    · rw [hs]; exact nI_le (Nat.le_refl _) (by omega)
    · exact pk_eq (qp_op (T l) (S l)) 0 h1 h0 rfl rfl (by omega) (by omega)
  | succ d ih =>
    intro k hk n hn
    obtain ⟨m, rfl⟩ : ∃ m, n = m + 1 := ⟨n - 1, by omega⟩
    refine And.intro (vp_in_nI hl (by decide)) (br_f ?_ (And.intro (qy_in hl (by omega)) ?_))
    · rw [hs]; exact nI_ge (by omega) (by omega)
    · rw [qy_tk hV hH hl (by omega)]
      refine qy_parts (qg_T7 hV hl (by omega)) ?_
      exact nm_r (qa_need' (qg_VV hV hl k (by omega))) (nm_r (nI_1 k) (ih (k + 1) (by omega) m (by omega)))
theorem qy_done {l : Nat} {post : Int32 → Prop} (hV : qg_V T S) (hH : qg_H T S bS bT) (hl : l < 5) (h1 : qp_op (T l) (S l) = 0 → post 1) (h0 : ¬ qp_op (T l) (S l) = 0 → post 0) : wpY_done post (bS, bT) (nI l) :=
  Exists.intro (S l + 1) (qy_done4 hV hH hl h1 h0 (S l) 0 (by omega) _ (by omega))
theorem qy_node {n : Nat} {post : Int32 → Prop} (hV : qg_V T S) (hH : qg_H T S bS bT) (hn : n < 2 ^ 31) (h1 : qp_op (T 4) (S 4) = 0 → n < S 4 → post 1) (h0 : ¬ (qp_op (T 4) (S 4) = 0 ∧ n < S 4) → post 0) : wpY_node post (bS, bT) (nI n) := by
  have hS := qg_S25 hV (l := 4) (by decide)
  unfold wpY_node
  refine qy_done (l := 4) hV hH (by decide) ?_ ?_
  · intro hw
    refine br_f (by decide) (br_f (nI_pos hn) ?_)
    exact pk_le (S 4) n (fun h => h0 (by omega)) (fun h => h1 hw h) (hH.1 4 (by decide)) rfl (by omega) hn
  · intro hw
    exact br_t rfl (h0 (fun z => hw z.1))
theorem qy_node_neg {x : Int32} {post : Int32 → Prop} (hV : qg_V T S) (hH : qg_H T S bS bT) (hx : x < 0) (h0 : post 0) : wpY_node post (bS, bT) x := by
  unfold wpY_node
  refine qy_done (l := 4) hV hH (by decide) ?_ ?_
  · intro hw
    exact br_f (by decide) (br_t hx h0)
  · intro hw
    exact br_t rfl h0
theorem qy_behind5 {l : Nat} {post : Int32 → Prop} (hV : qg_V T S) (hH : qg_H T S bS bT) (hl : l < 5) :
    ∀ f o a, f = S l - a → o + f ≤ 1000 → a ≤ 1000 → post (nI (qp_bd (T l) f o a)) → ∀ n, f < n → wY_behind_5 post (nI l) bS bT n (nI o) (nI a) := by
  have hs := qy_sz hH hl
  have hS := qg_S25 hV hl
  intro f
  induction f with
  | zero =>
    intro o a hf ho ha hp n hn
    obtain ⟨m, rfl⟩ : ∃ m, n = m + 1 := ⟨n - 1, by omega⟩
    refine br_c (fun _ => hp) (fun _ => And.intro (vp_in_nI hl (by decide)) (br_t ?_ hp))
    rw [hs]; exact nI_le (by omega) (by omega)
  | succ f ih =>
    intro o a hf ho ha hp n hn
    obtain ⟨m, rfl⟩ : ∃ m, n = m + 1 := ⟨n - 1, by omega⟩
    rw [qp_bd_s] at hp
    refine pk_le o 0 (fun z => ?_) (fun z => And.intro (vp_in_nI hl (by decide)) (br_f ?_ (And.intro (qy_in hl (by omega)) ?_)))
    · rw [if_pos (by omega)] at hp; exact hp
    · rw [hs]; exact nI_ge (by omega) (by omega)
    · rw [if_neg (by omega)] at hp
      rw [qy_tk hV hH hl (by omega)]
      have h2 := qp_ar_le (T l a)
      refine qy_parts (qg_T7 hV hl (by omega)) ?_
      exact nm_r (qa_need' (by omega)) (nm_r (nI_1 a) (ih _ (a + 1) (by omega) (by omega) (by omega) hp m (by omega)))
theorem qy_behind {l a : Nat} {post : Int32 → Prop} (hV : qg_V T S) (hH : qg_H T S bS bT) (hl : l < 5) (ha : a ≤ 1000) (hp : post (nI (qp_bh (T l) (S l) a))) : wpY_behind post (bS, bT) (nI l) (nI a) := by
  have hS := qg_S25 hV hl
  exact Exists.intro (S l - a + 1) (qy_behind5 hV hH hl (S l - a) 1 a rfl (by omega) ha hp _ (by omega))
theorem qy_lies6 {p l n i : Nat} {post : Int32 → Prop} (hV : qg_V T S) (hH : qg_H T S bS bT) (hp : p < 5) (hl : l < 5) (hi : i ≤ S p) (hn : n ≤ 25) (hpost : post (qz_o (qp_ly (T p) (T l) (S l) n i))) :
    ∀ d k a, k + d = i → qp_ly (T p) (T l) (S l) n k = some a → ∀ f, d < f → wY_lies_6 post (nI p) (nI l) (nI i) bS bT f (nI a) (nI k) := by
  have hsp := qg_S25 hV hp
  have hsl := qg_S25 hV hl
  have hs := qy_sz hH hl
  intro d
  induction d with
  | zero =>
    intro k a hk ha f hf
    obtain ⟨m, rfl⟩ : ∃ m, f = m + 1 := ⟨f - 1, by omega⟩
    have e : k = i := by omega
    subst e
    rw [ha] at hpost
    exact br_t (nI_le (Nat.le_refl _) (by omega)) hpost
  | succ d ih =>
    intro k a hk ha f hf
    obtain ⟨m, rfl⟩ : ∃ m, f = m + 1 := ⟨f - 1, by omega⟩
    have hal := qp_ly_le k a ha
    have hT := qg_T7 hV hp (k := k) (by omega)
    have hno : qp_ly (T p) (T l) (S l) n (k + 1) = none → post (-1) := by
      intro z
      have z2 := qp_ly_nn z d
      rw [show k + 1 + d = i by omega] at z2
      rw [z2] at hpost
      exact hpost
    have hst := qp_ly_ss ha
    refine br_f (nI_ge (by omega) (by omega)) (And.intro (qy_in hp (by omega)) ?_)
    refine nm_r (qy_tk hV hH hp (by omega)) ?_
    refine pk_eq (T p k) 7 (fun h7 => ?_) (fun h7 => And.intro (vp_in_nI hl (by decide)) ?_)
    · rw [h7, qp_st_7] at hst
      exact qy_behind hV hH hl (by omega) (nm_r (nI_1 k) (ih (k + 1) _ (by omega) hst m (by omega)))
    · refine pk_le (S l) a (fun h => hno ?_) (fun h => And.intro (qy_in hl (by omega)) ?_) hs rfl
      · rw [hst, qp_st_n h7 (by omega)]
      · rw [qy_tk hV hH hl h]
        have hT2 := qg_T7 hV hl h
        refine pk_eq (T l a) (T p k) (fun he => ?_) (fun he => hno ?_)
        · rw [qp_st_y h7 h he] at hst
          exact nm_r (nI_1 a) (nm_r (nI_1 k) (ih (k + 1) _ (by omega) hst m (by omega)))
        · rw [hst, qp_st_n h7 (fun z => he z.2)]
theorem qy_lies {p l n i : Nat} {post : Int32 → Prop} (hV : qg_V T S) (hH : qg_H T S bS bT) (hp : p < 5) (hl : l < 5) (hi : i ≤ S p) (hn : n ≤ 25) (hpost : post (qz_o (qp_ly (T p) (T l) (S l) n i))) : wpY_lies post (bS, bT) (nI p) (nI l) (nI n) (nI i) :=
  Exists.intro (i + 1) (qy_lies6 hV hH hp hl hi hn hpost i 0 n (by omega) rfl _ (by omega))
theorem qz_o_lt {o : Option Nat} {A B : Prop} (ho : ∀ a, o = some a → a ≤ 1000) (f : o.isSome = false → A) (g : o.isSome = true → B) : (qz_o o < 0 → A) ∧ (¬ qz_o o < 0 → B) := by
  cases o with
  | none => exact br_t qa_m1n (f rfl)
  | some a => exact br_f (nI_pos (by have := ho a rfl; omega)) (g rfl)
theorem qy_fits {p n : Nat} {post : Int32 → Prop} (hV : qg_V T S) (hH : qg_H T S bS bT) (hp : p < 4) (hn : n < 2 ^ 31) (h1 : qg_fb T S p n = true → post 1) (h0 : qg_fb T S p n = false → post 0) : wpY_fits post (bS, bT) (nI p) (nI n) := by
  have hS := qg_S25 hV (l := 4) (by decide)
  have hSp := qg_S25 hV (l := p) (by omega)
  unfold wpY_fits
  refine qy_done hV hH (by omega) (fun hw => br_f (by decide) ?_) (fun hw => br_t rfl (h0 (qg_fb_f (fun z => hw z.1))))
  refine qy_node hV hH hn (fun hw4 hn4 => br_f (by decide) (And.intro (vp_in_nI (by omega) (by decide)) ?_)) (fun z => br_t rfl (h0 (qg_fb_f (fun y => z ⟨y.2.1, y.2.2.1⟩))))
  rw [qy_sz hH (by omega)]
  refine qy_lies (l := 4) hV hH (by omega) (by decide) (Nat.le_refl _) (by omega) ?_
  refine qz_o_lt ?_ (fun z => h0 (qg_fb_f ?_)) (fun z => h1 (qg_fb_t.mpr ⟨hw, hw4, hn4, z⟩))
  · intro a ha
    have := qp_ly_le _ a ha
    omega
  · intro y
    rw [y.2.2.2] at z
    exact absurd z (by decide)
theorem qy_fits_neg {p : Nat} {x : Int32} {post : Int32 → Prop} (hV : qg_V T S) (hH : qg_H T S bS bT) (hp : p < 4) (hx : x < 0) (h0 : post 0) : wpY_fits post (bS, bT) (nI p) x := by
  unfold wpY_fits
  refine qy_done hV hH (by omega) (fun hw => br_f (by decide) ?_) (fun hw => br_t rfl h0)
  exact qy_node_neg hV hH hx (br_t rfl h0)
theorem qy_fitsAt4 {n : Nat} {post : Int32 → Prop} (hV : qg_V T S) (hH : qg_H T S bS bT) (hn : n < 2 ^ 31) (hpost : post (qg_FF T S n)) :
    ∀ d p, p + d = 4 → ∀ f, d < f → wY_fitsAt_4 post (nI n) bS bT f (qz_F (fun p => qg_fb T S p n) p) (nI p) := by
  intro d
  induction d with
  | zero =>
    intro p hp f hf
    obtain ⟨m, rfl⟩ : ∃ m, f = m + 1 := ⟨f - 1, by omega⟩
    have e : p = 4 := by omega
    subst e
    exact br_t (nI_le (b := 4) (Nat.le_refl _) (by decide)) hpost
  | succ d ih =>
    intro p hp f hf
    obtain ⟨m, rfl⟩ : ∃ m, f = m + 1 := ⟨f - 1, by omega⟩
    refine br_f (nI_ge (b := 4) (by omega) (by decide)) ?_
    refine qy_fits hV hH (by omega) hn (fun h => br_f (by decide) ?_) (fun h => br_t rfl ?_)
    · exact nm_r (qz_F_t (b := fun p => qg_fb T S p n) h) (nm_r (nI_1 p) (ih (p + 1) (by omega) m (by omega)))
    · rw [qz_F_f (b := fun p => qg_fb T S p n) h]
      exact nm_r (nI_1 p) (ih (p + 1) (by omega) m (by omega))
theorem qy_fitsAt {n : Nat} {post : Int32 → Prop} (hV : qg_V T S) (hH : qg_H T S bS bT) (hn : n < 2 ^ 31) (hpost : post (qg_FF T S n)) : wpY_fitsAt post (bS, bT) (nI n) :=
  Exists.intro 5 (qy_fitsAt4 hV hH hn hpost 4 0 rfl 5 (by decide))
theorem qy_fitsAt4_neg {x : Int32} {post : Int32 → Prop} (hV : qg_V T S) (hH : qg_H T S bS bT) (hx : x < 0) (hpost : post 0) :
    ∀ d p, p + d = 4 → ∀ f, d < f → wY_fitsAt_4 post x bS bT f 0 (nI p) := by
  intro d
  induction d with
  | zero =>
    intro p hp f hf
    obtain ⟨m, rfl⟩ : ∃ m, f = m + 1 := ⟨f - 1, by omega⟩
    have e : p = 4 := by omega
    subst e
    exact br_t (nI_le (b := 4) (Nat.le_refl _) (by decide)) hpost
  | succ d ih =>
    intro p hp f hf
    obtain ⟨m, rfl⟩ : ∃ m, f = m + 1 := ⟨f - 1, by omega⟩
    refine br_f (nI_ge (b := 4) (by omega) (by decide)) ?_
    exact qy_fits_neg hV hH (by omega) hx (br_t rfl (nm_r (nI_1 p) (ih (p + 1) (by omega) m (by omega))))
theorem qy_fitsAt_neg {x : Int32} {post : Int32 → Prop} (hV : qg_V T S) (hH : qg_H T S bS bT) (hx : x < 0) (hpost : post 0) : wpY_fitsAt post (bS, bT) x :=
  Exists.intro 5 (qy_fitsAt4_neg hV hH hx hpost 4 0 rfl 5 (by decide))
theorem qy_pat {p : Nat} {post : Int32 → Prop} (hp : p < 4) (h : post 1) : wpY_pattern post (bS, bT) (nI p) :=
  br_f (nI_pos (by omega)) (br_f (nI_nlt (a := 3) (b := p) (by omega) (by decide)) h)
theorem qy_pat_n {x : Int32} {post : Int32 → Prop} (hx : x < 0 ∨ nI 4 ≤ x) (h : post 0) : wpY_pattern post (bS, bT) x := by
  refine br_c (fun _ => h) (fun z => br_t ?_ h)
  rcases hx with y | y
  · exact absurd y z
  · rw [Int32.le_iff_toInt_le, nI_toInt (by omega)] at y
    rw [Int32.lt_iff_toInt_lt]
    have h3 : (3 : Int32).toInt = 3 := by decide
    omega
theorem qy_complete {p : Nat} {post : Int32 → Prop} (hV : qg_V T S) (hH : qg_H T S bS bT) (hp : p < 4) (h1 : qp_op (T p) (S p) = 0 → post 1) (h0 : ¬ qp_op (T p) (S p) = 0 → post 0) : wpY_complete post (bS, bT) (nI p) := by
  unfold wpY_complete
  refine qy_pat hp (br_f (by decide) ?_)
  exact qy_done hV hH (by omega) (fun h => br_f (by decide) (h1 h)) (fun h => br_t rfl (h0 h))
theorem qy_complete_n {x : Int32} {post : Int32 → Prop} (hx : x < 0 ∨ nI 4 ≤ x) (h0 : post 0) : wpY_complete post (bS, bT) x := by
  unfold wpY_complete
  exact qy_pat_n hx (br_t rfl h0)
theorem qy_whole {post : Int32 → Prop} (hV : qg_V T S) (hH : qg_H T S bS bT) (h1 : qp_op (T 4) (S 4) = 0 → post 1) (h0 : ¬ qp_op (T 4) (S 4) = 0 → post 0) : wpY_whole post (bS, bT) := by
  unfold wpY_whole
  exact qy_done (l := 4) hV hH (by decide) (fun h => And.intro rfl (h1 h)) (fun h => And.intro rfl (h0 h))
theorem qy_count4 {p : Nat} {post : Int32 → Prop} (hV : qg_V T S) (hH : qg_H T S bS bT) (hp : p < 4) (hpost : post (nI (qz_cn (qg_fb T S p) 25))) :
    ∀ d n, n + d = 25 → ∀ f, d < f → wY_count_4 post (nI p) bS bT f (nI (qz_cn (qg_fb T S p) n)) (nI n) := by
  intro d
  induction d with
  | zero =>
    intro n hn f hf
    obtain ⟨m, rfl⟩ : ∃ m, f = m + 1 := ⟨f - 1, by omega⟩
    have e : n = 25 := by omega
    subst e
    exact br_t (nI_le (b := 25) (Nat.le_refl _) (by decide)) hpost
  | succ d ih =>
    intro n hn f hf
    obtain ⟨m, rfl⟩ : ∃ m, f = m + 1 := ⟨f - 1, by omega⟩
    refine br_f (nI_ge (b := 25) (by omega) (by decide)) (qy_pat hp (br_f (by decide) ?_))
    refine qy_fits hV hH hp (by omega) (fun h => br_f (by decide) ?_) (fun h => br_t rfl ?_)
    · refine nm_r (nI_1 _) (nm_r (nI_1 n) ?_)
      rw [← qz_cn_t h]
      exact ih (n + 1) (by omega) m (by omega)
    · refine nm_r (nI_1 n) ?_
      rw [← qz_cn_f h]
      exact ih (n + 1) (by omega) m (by omega)
theorem qy_count {p : Nat} {post : Int32 → Prop} (hV : qg_V T S) (hH : qg_H T S bS bT) (hp : p < 4) (hpost : post (nI (qz_cn (qg_fb T S p) 25))) : wpY_count post (bS, bT) (nI p) :=
  Exists.intro 26 (qy_count4 hV hH hp hpost 25 0 rfl 26 (by decide))
theorem qy_count_n {x : Int32} {post : Int32 → Prop} (hx : x < 0 ∨ nI 4 ≤ x) (hpost : post 0) : wpY_count post (bS, bT) x :=
  Exists.intro 1 (br_f (by decide) (qy_pat_n hx (br_t rfl hpost)))
theorem qy_next2 {p : Nat} {x : Int32} {s : Nat} {post : Int32 → Prop} (hV : qg_V T S) (hH : qg_H T S bS bT) (hp : p < 4) (hx : ∀ k, k < 25 → (nI k < x ↔ k < s)) :
    ∀ d k, k + d = 25 → post (if k < s then qz_nx (qg_fb T S p) (25 - s) s else qz_nx (qg_fb T S p) d k) → ∀ f, d < f → wY_next_2 post (nI p) x bS bT f (nI k) := by
  intro d
  induction d with
  | zero =>
    intro k hk hpost f hf
    obtain ⟨m, rfl⟩ : ∃ m, f = m + 1 := ⟨f - 1, by omega⟩
    have e : k = 25 := by omega
    subst e
    refine br_t (nI_le (b := 25) (Nat.le_refl _) (by decide)) ?_
    by_cases z : 25 < s
    · rw [if_pos z, show 25 - s = 0 by omega] at hpost; exact hpost
    · rw [if_neg z] at hpost; exact hpost
  | succ d ih =>
    intro k hk hpost f hf
    obtain ⟨m, rfl⟩ : ∃ m, f = m + 1 := ⟨f - 1, by omega⟩
    refine br_f (nI_ge (b := 25) (by omega) (by decide)) (qy_pat hp (br_f (by decide) ?_))
    by_cases z : k < s
    · refine br_t ((hx k (by omega)).mpr z) (nm_r (nI_1 k) (ih (k + 1) (by omega) ?_ m (by omega)))
      rw [if_pos z] at hpost
      by_cases y : k + 1 < s
      · rw [if_pos y]; exact hpost
      · rw [if_neg y]
        have e : s = k + 1 := by omega
        rw [e, show 25 - (k + 1) = d by omega] at hpost
        exact hpost
    · rw [if_neg z] at hpost
      refine br_f (fun w => z ((hx k (by omega)).mp w)) ?_
      refine qy_fits hV hH hp (by omega) (fun h => br_f (by decide) ?_) (fun h => br_t rfl ?_)
      · rw [qz_nx_t h] at hpost; exact hpost
      · rw [qz_nx_f h] at hpost
        refine nm_r (nI_1 k) (ih (k + 1) (by omega) ?_ m (by omega))
        rw [if_neg (by omega)]; exact hpost
theorem qy_next {p : Nat} {x : Int32} {s : Nat} {post : Int32 → Prop} (hV : qg_V T S) (hH : qg_H T S bS bT) (hp : p < 4) (hx : ∀ k, k < 25 → (nI k < x ↔ k < s)) (hpost : post (qz_nx (qg_fb T S p) (25 - s) s)) : wpY_next post (bS, bT) (nI p) x := by
  refine Exists.intro 26 (qy_next2 (s := s) hV hH hp hx 25 0 rfl ?_ 26 (by decide))
  by_cases z : 0 < s
  · rw [if_pos z]; exact hpost
  · have e : s = 0 := by omega
    subst e
    rw [if_neg z]; exact hpost
theorem qy_next_n {x y : Int32} {post : Int32 → Prop} (hx : x < 0 ∨ nI 4 ≤ x) (hpost : post (-1)) : wpY_next post (bS, bT) x y :=
  Exists.intro 1 (br_f (by decide) (qy_pat_n hx (br_t rfl hpost)))
theorem qy_gapAt25 {p n : Nat} {x : Int32} {post : Int32 → Prop} (hV : qg_V T S) (hH : qg_H T S bS bT) (hp : p < 4) (hn : n < S 4) :
    ∀ d i g, i + d = S p → g ≤ i → post (qz_ga (T p) (fun i => qz_o (qp_ly (T p) (T 4) (S 4) n i)) x d i g) → ∀ f, d < f → wY_gapAt_25 post (nI p) (nI n) x bS bT f (nI g) (nI i) := by
  have hs := qy_sz hH (l := p) (by omega)
  have hSp := qg_S25 hV (l := p) (by omega)
  have hS4 := qg_S25 hV (l := 4) (by omega)
  intro d
  induction d with
  | zero =>
    intro i g hi hg hpost f hf
    obtain ⟨m, rfl⟩ : ∃ m, f = m + 1 := ⟨f - 1, by omega⟩
    refine And.intro (vp_in_nI (by omega) (by decide)) (br_t ?_ hpost)
    rw [hs]; exact nI_le (by omega) (by omega)
  | succ d ih =>
    intro i g hi hg hpost f hf
    obtain ⟨m, rfl⟩ : ∃ m, f = m + 1 := ⟨f - 1, by omega⟩
    have hT := qg_T7 hV (l := p) (k := i) (by omega) (by omega)
    have hpost' : post (if T p i = 7 then (if nI g = x then qz_o (qp_ly (T p) (T 4) (S 4) n i) else qz_ga (T p) (fun i => qz_o (qp_ly (T p) (T 4) (S 4) n i)) x d (i + 1) (g + 1)) else qz_ga (T p) (fun i => qz_o (qp_ly (T p) (T 4) (S 4) n i)) x d (i + 1) g) := hpost
    refine And.intro (vp_in_nI (by omega) (by decide)) (br_f ?_ (And.intro (qy_in (by omega) (by omega)) ?_))
    · rw [hs]; exact nI_ge (by omega) (by omega)
    · rw [qy_tk hV hH (by omega) (by omega)]
      refine pk_eq (T p i) 7 (fun h7 => ?_) (fun h7 => ?_)
      · rw [if_pos h7] at hpost'
        refine br_c (fun hx => ?_) (fun hx => ?_)
        · rw [if_pos hx] at hpost'
          exact qy_lies (l := 4) hV hH (by omega) (by decide) (by omega) (by omega) hpost'
        · rw [if_neg hx] at hpost'
          exact nm_r (nI_1 g) (nm_r (nI_1 i) (ih (i + 1) (g + 1) (by omega) (by omega) hpost' m (by omega)))
      · rw [if_neg h7] at hpost'
        exact nm_r (nI_1 i) (ih (i + 1) g (by omega) (by omega) hpost' m (by omega))
theorem qy_gapAt {p n : Nat} {x : Int32} {post : Int32 → Prop} (hV : qg_V T S) (hH : qg_H T S bS bT) (hp : p < 4) (hn : n < 2 ^ 31) (h1 : qg_fb T S p n = true → post (qz_ga (T p) (fun i => qz_o (qp_ly (T p) (T 4) (S 4) n i)) x (S p) 0 0)) (h0 : qg_fb T S p n = false → post (-1)) : wpY_gapAt post (bS, bT) (nI p) (nI n) x := by
  unfold wpY_gapAt
  refine qy_pat hp (br_f (by decide) ?_)
  refine qy_fits hV hH hp hn (fun h => br_f (by decide) ?_) (fun h => br_t rfl (h0 h))
  exact Exists.intro (S p + 1) (qy_gapAt25 hV hH hp (qg_fb_t.mp h).2.2.1 (S p) 0 0 (by omega) (Nat.le_refl _) (h1 h) _ (by omega))
theorem qy_gapAt_n {x y z : Int32} {post : Int32 → Prop} (hx : x < 0 ∨ nI 4 ≤ x) (h0 : post (-1)) : wpY_gapAt post (bS, bT) x y z := by
  unfold wpY_gapAt
  exact qy_pat_n hx (br_t rfl h0)
theorem qy_gapAt_neg {p : Nat} {y z : Int32} {post : Int32 → Prop} (hV : qg_V T S) (hH : qg_H T S bS bT) (hp : p < 4) (hy : y < 0) (h0 : post (-1)) : wpY_gapAt post (bS, bT) (nI p) y z := by
  unfold wpY_gapAt
  refine qy_pat hp (br_f (by decide) ?_)
  exact qy_fits_neg hV hH hp hy (br_t rfl h0)
theorem qy_size {n : Nat} {post : Int32 → Prop} (hV : qg_V T S) (hH : qg_H T S bS bT) (hn : n < 2 ^ 31) (h1 : qp_op (T 4) (S 4) = 0 → n < S 4 → post (nI (qp_bh (T 4) (S 4) n - n))) (h0 : ¬ (qp_op (T 4) (S 4) = 0 ∧ n < S 4) → post (-1)) : wpY_size post (bS, bT) (nI n) := by
  have hS4 := qg_S25 hV (l := 4) (by omega)
  unfold wpY_size
  refine qy_node hV hH hn (fun hw hn4 => br_f (by decide) ?_) (fun z => br_t rfl (h0 z))
  refine qy_behind (l := 4) hV hH (by decide) (by omega) ?_
  have hg := qp_bh_gt (qg_VV hV (l := 4) (by decide)) hw hn4
  show post (nI _ - nI n)
  rw [pk_sub (by omega)]
  exact h1 hw hn4
theorem qy_size_neg {x : Int32} {post : Int32 → Prop} (hV : qg_V T S) (hH : qg_H T S bS bT) (hx : x < 0) (h0 : post (-1)) : wpY_size post (bS, bT) x := by
  unfold wpY_size
  exact qy_node_neg hV hH hx (br_t rfl h0)
end QY
end
section
section QY2
variable {T : Nat → Nat → Nat} {S : Nat → Nat} {bS bT : Nat → Int32}
theorem qy_i100 {m k : Nat} : (100 : Int32) + nI m + nI k = nI (25 * 4 + (m + k)) := by
  rw [show (100 : Int32) = nI 100 from rfl, nI_add, nI_add, show 100 + m + k = 25 * 4 + (m + k) by omega]
theorem qy_tk4 {m k : Nat} (hV : qg_V T S) (hH : qg_H T S bS bT) (h : m + k < S 4) : bT ((100 : Int32) + nI m + nI k).toNatClampNeg = nI (T 4 (m + k)) := by
  have := qg_S25 hV (l := 4) (by decide)
  rw [qy_i100, nI_clamp (by omega)]; exact hH.2 4 (by decide) (m + k) h
theorem qy_in4 {m k : Nat} (h : m + k < 25) : vp_in ((100 : Int32) + nI m + nI k) 125 := by
  rw [qy_i100]; exact vp_in_nI (by omega) (by omega)
theorem qy_equal0 {x y : Int32} {k : Nat} {post : Int32 → Prop} (hk : k ≤ 25) (h : post 0) : ∃ f, wY_equal_38 post x y bS bT f 0 (nI k) :=
  Exists.intro 1 (pk_le 25 k (fun _ => And.intro rfl h) (fun _ => br_t rfl (And.intro rfl h)))
theorem qy_equal38 {m n : Nat} {post : Int32 → Prop} (hV : qg_V T S) (hH : qg_H T S bS bT) (hw : qp_op (T 4) (S 4) = 0) (hm : m < S 4) (hn : n < S 4) (hl : qp_bh (T 4) (S 4) m - m = qp_bh (T 4) (S 4) n - n) (h1 : qp_Q (T 4) (S 4) m n → post 1) (h0 : ¬ qp_Q (T 4) (S 4) m n → post 0) :
    ∀ d k, k + d = 25 → (∀ j, j < k → j < qp_bh (T 4) (S 4) m - m → T 4 (m + j) = T 4 (n + j)) → ∀ f, d + 1 < f → wY_equal_38 post (nI m) (nI n) bS bT f 1 (nI k) := by
  have hS4 := qg_S25 hV (l := 4) (by decide)
  have hV4 := qg_VV hV (l := 4) (by decide)
  obtain ⟨hE1, hl1⟩ := qp_bh_E hV4 hw hm
  obtain ⟨hE2, hl2⟩ := qp_bh_E hV4 hw hn
  have hg1 := hE1.1
  have hg2 := hE2.1
  intro d
  induction d with
  | zero =>
    intro k hk hj f hf
    obtain ⟨e, rfl⟩ : ∃ e, f = e + 1 := ⟨f - 1, by omega⟩
    exact br_t (nI_le (a := 25) (b := k) (by omega) (by omega)) (And.intro rfl (h1 ⟨hl, fun j hj2 => hj j (by omega) hj2⟩))
  | succ d ih =>
    intro k hk hj f hf
    obtain ⟨e, rfl⟩ : ∃ e, f = e + 1 := ⟨f - 1, by omega⟩
    refine br_f (nI_ge (b := 25) (by omega) (by decide)) (br_f (by decide) ?_)
    refine qy_size hV hH (by omega) (fun _ _ => ?_) (fun z => absurd ⟨hw, hm⟩ z)
    refine pk_le (qp_bh (T 4) (S 4) m - m) k (fun z => ?_) (fun z => And.intro (qy_in4 (by omega)) (And.intro (qy_in4 (by omega)) ?_))
    · refine nm_r (nI_1 k) (ih (k + 1) (by omega) ?_ e (by omega))
      intro j h2 h3
      exact hj j (by omega) h3
    · rw [qy_tk4 hV hH (by omega), qy_tk4 hV hH (by omega)]
      have ht1 := qg_T7 hV (l := 4) (k := m + k) (by decide) (by omega)
      have ht2 := qg_T7 hV (l := 4) (k := n + k) (by decide) (by omega)
      refine pk_eq (T 4 (m + k)) (T 4 (n + k)) (fun y => ?_) (fun y => ?_)
      · refine nm_r (nI_1 k) (ih (k + 1) (by omega) ?_ e (by omega))
        intro j h2 h3
        by_cases w : j = k
        · subst w; exact y
        · exact hj j (by omega) h3
      · refine nm_r (nI_1 k) ?_
        obtain ⟨e', rfl⟩ : ∃ e', e = e' + 1 := ⟨e - 1, by omega⟩
        have h00 : post 0 := h0 (fun w => y (w.2 k z))
        exact pk_le 25 (k + 1) (fun _ => And.intro rfl h00) (fun _ => br_t rfl (And.intro rfl h00))
theorem qy_equal {m n : Nat} {post : Int32 → Prop} (hV : qg_V T S) (hH : qg_H T S bS bT) (hm : m < 2 ^ 31) (hn : n < 2 ^ 31) (h1 : qp_op (T 4) (S 4) = 0 → m < S 4 → n < S 4 → qp_Q (T 4) (S 4) m n → post 1) (h0 : ¬ (qp_op (T 4) (S 4) = 0 ∧ m < S 4 ∧ n < S 4 ∧ qp_Q (T 4) (S 4) m n) → post 0) : wpY_equal post (bS, bT) (nI m) (nI n) := by
  have hS4 := qg_S25 hV (l := 4) (by decide)
  have hV4 := qg_VV hV (l := 4) (by decide)
  unfold wpY_equal
  refine qy_node hV hH hm (fun hw hm4 => br_f (by decide) ?_) (fun z => br_t rfl (qy_equal0 (k := 0) (by decide) (h0 (fun y => z ⟨y.1, y.2.1⟩))))
  refine qy_node hV hH hn (fun _ hn4 => br_f (by decide) ?_) (fun z => br_t rfl (qy_equal0 (k := 0) (by decide) (h0 (fun y => z ⟨y.1, y.2.2.1⟩))))
  refine qy_size hV hH hm (fun _ _ => ?_) (fun z => absurd ⟨hw, hm4⟩ z)
  refine qy_size hV hH hn (fun _ _ => ?_) (fun z => absurd ⟨hw, hn4⟩ z)
  have l1 := (qp_bh_E hV4 hw hm4).2
  have l2 := (qp_bh_E hV4 hw hn4).2
  refine pk_eq (qp_bh (T 4) (S 4) m - m) (qp_bh (T 4) (S 4) n - n) (fun hl => ?_) (fun hl => ?_)
  · exact Exists.intro 27 (qy_equal38 hV hH hw hm4 hn4 hl (h1 hw hm4 hn4) (fun y => h0 (fun z => y z.2.2.2)) 25 0 rfl (fun j hj => absurd hj (Nat.not_lt_zero j)) 27 (by decide))
  · exact qy_equal0 (k := 0) (by decide) (h0 (fun y => hl y.2.2.2.1))
theorem qy_equal_n1 {x y : Int32} {post : Int32 → Prop} (hV : qg_V T S) (hH : qg_H T S bS bT) (hx : x < 0) (h0 : post 0) : wpY_equal post (bS, bT) x y := by
  unfold wpY_equal
  exact qy_node_neg hV hH hx (br_t rfl (qy_equal0 (k := 0) (by decide) h0))
theorem qy_equal_n2 {m : Nat} {y : Int32} {post : Int32 → Prop} (hV : qg_V T S) (hH : qg_H T S bS bT) (hm : m < 2 ^ 31) (hy : y < 0) (h0 : post 0) : wpY_equal post (bS, bT) (nI m) y := by
  unfold wpY_equal
  refine qy_node hV hH hm (fun hw hm4 => br_f (by decide) ?_) (fun z => br_t rfl (qy_equal0 (k := 0) (by decide) h0))
  exact qy_node_neg hV hH hy (br_t rfl (qy_equal0 (k := 0) (by decide) h0))
theorem qy_kinds15 {z : Nat} {x1 : Int32} {post : Int32 → Prop} {J : Int32 → Int32 → Prop} (hV : qg_V T S) (hH : qg_H T S bS bT) (hz : z < 16) (ht : qz_ex (qg_kd T S z) 25 = true → J (x1 + 1) (nI (z + 1))) (hf : qz_ex (qg_kd T S z) 25 = false → J x1 (nI (z + 1))) :
    ∀ d n, n + d = 25 → ∀ f, d < f → wY_kinds_15 post J x1 (nI z) bS bT f (if qz_ex (qg_kd T S z) n = true then 1 else 0) (nI n) := by
  intro d
  induction d with
  | zero =>
    intro n hn f hf'
    obtain ⟨e, rfl⟩ : ∃ e, f = e + 1 := ⟨f - 1, by omega⟩
    have en : n = 25 := by omega
    subst en
    refine br_t (nI_le (b := 25) (Nat.le_refl _) (by decide)) ?_
    cases h : qz_ex (qg_kd T S z) 25 with
    | true => exact br_f (by decide) (nm_e (nm_r (nI_1 z) (ht h)))
    | false => exact br_t rfl (nm_r (nI_1 z) (hf h))
  | succ d ih =>
    intro n hn f hf'
    obtain ⟨e, rfl⟩ : ∃ e, f = e + 1 := ⟨f - 1, by omega⟩
    have hi := ih (n + 1) (by omega) e (by omega)
    refine br_f (nI_ge (b := 25) (by omega) (by decide)) ?_
    cases h : qz_ex (qg_kd T S z) n with
    | true =>
      rw [qz_ex_t h] at hi
      exact br_f (by decide) (nm_r (nI_1 n) hi)
    | false =>
      rw [qz_ex_f h] at hi
      refine br_t rfl ?_
      refine qy_node hV hH (by omega) (fun hw hn4 => br_f (by decide) ?_) (fun y => br_t rfl ?_)
      · refine qy_fitsAt hV hH (by omega) ?_
        refine br_c (fun w => ?_) (fun w => ?_)
        · rw [show qg_kd T S z n = true from decide_eq_true ⟨hw, hn4, w⟩] at hi
          exact nm_r (nI_1 n) hi
        · rw [show qg_kd T S z n = false from decide_eq_false (fun v => w v.2.2)] at hi
          exact nm_r (nI_1 n) hi
      · rw [show qg_kd T S z n = false from decide_eq_false (fun v => y ⟨v.1, v.2.1⟩)] at hi
        exact nm_r (nI_1 n) hi
theorem qy_kinds4 {post : Int32 → Prop} (hV : qg_V T S) (hH : qg_H T S bS bT) (hpost : post (nI (qz_cn (fun z => qz_ex (qg_kd T S z) 25) 16))) :
    ∀ d z, z + d = 16 → ∀ f, d < f → wY_kinds_4 post bS bT f (nI (qz_cn (fun z => qz_ex (qg_kd T S z) 25) z)) (nI z) := by
  intro d
  induction d with
  | zero =>
    intro z hz f hf
    obtain ⟨e, rfl⟩ : ∃ e, f = e + 1 := ⟨f - 1, by omega⟩
    have en : z = 16 := by omega
    subst en
    exact br_t (nI_le (b := 16) (Nat.le_refl _) (by decide)) hpost
  | succ d ih =>
    intro z hz f hf
    obtain ⟨e, rfl⟩ : ∃ e, f = e + 1 := ⟨f - 1, by omega⟩
    have hi := ih (z + 1) (by omega) e (by omega)
    refine br_f (nI_ge (b := 16) (by omega) (by decide)) (Exists.intro 26 ?_)
    refine qy_kinds15 hV hH (by omega) (fun h => ?_) (fun h => ?_) 25 0 rfl 26 (by decide)
    · rw [nI_1, ← qz_cn_t (f := fun z => qz_ex (qg_kd T S z) 25) h]; exact hi
    · rw [← qz_cn_f (f := fun z => qz_ex (qg_kd T S z) 25) h]; exact hi
theorem qy_kinds {post : Int32 → Prop} (hV : qg_V T S) (hH : qg_H T S bS bT) (hpost : post (nI (qz_cn (fun z => qz_ex (qg_kd T S z) 25) 16))) : wpY_kinds post (bS, bT) :=
  Exists.intro 17 (qy_kinds4 hV hH hpost 16 0 rfl 17 (by decide))
theorem qy_bare4 {post : Int32 → Prop} (hV : qg_V T S) (hH : qg_H T S bS bT) (hpost : post (nI (qz_cn (qg_kd T S 0) 25))) :
    ∀ d n, n + d = 25 → ∀ f, d < f → wY_bare_4 post bS bT f (nI (qz_cn (qg_kd T S 0) n)) (nI n) := by
  intro d
  induction d with
  | zero =>
    intro n hn f hf
    obtain ⟨e, rfl⟩ : ∃ e, f = e + 1 := ⟨f - 1, by omega⟩
    have en : n = 25 := by omega
    subst en
    exact br_t (nI_le (b := 25) (Nat.le_refl _) (by decide)) hpost
  | succ d ih =>
    intro n hn f hf
    obtain ⟨e, rfl⟩ : ∃ e, f = e + 1 := ⟨f - 1, by omega⟩
    have hi := ih (n + 1) (by omega) e (by omega)
    refine br_f (nI_ge (b := 25) (by omega) (by decide)) ?_
    refine qy_node hV hH (by omega) (fun hw hn4 => br_f (by decide) ?_) (fun y => br_t rfl ?_)
    · refine qy_fitsAt hV hH (by omega) ?_
      refine br_c (fun w => ?_) (fun w => ?_)
      · rw [qz_cn_t (show qg_kd T S 0 n = true from decide_eq_true ⟨hw, hn4, w⟩)] at hi
        exact nm_r (nI_1 _) (nm_r (nI_1 n) hi)
      · rw [qz_cn_f (show qg_kd T S 0 n = false from decide_eq_false (fun v => w v.2.2))] at hi
        exact nm_r (nI_1 n) hi
    · rw [qz_cn_f (show qg_kd T S 0 n = false from decide_eq_false (fun v => y ⟨v.1, v.2.1⟩))] at hi
      exact nm_r (nI_1 n) hi
theorem qy_bare {post : Int32 → Prop} (hV : qg_V T S) (hH : qg_H T S bS bT) (hpost : post (nI (qz_cn (qg_kd T S 0) 25))) : wpY_bare post (bS, bT) :=
  Exists.intro 26 (qy_bare4 hV hH hpost 25 0 rfl 26 (by decide))
theorem qy_covers {p q : Nat} {post : Int32 → Prop} (hV : qg_V T S) (hH : qg_H T S bS bT) (hp : p < 4) (hq : q < 4) (h1 : qp_op (T p) (S p) = 0 → qp_op (T q) (S q) = 0 → (qp_ly (T p) (T q) (S q) 0 (S p)).isSome = true → post 1) (h0 : ¬ (qp_op (T p) (S p) = 0 ∧ qp_op (T q) (S q) = 0 ∧ (qp_ly (T p) (T q) (S q) 0 (S p)).isSome = true) → post 0) : wpY_covers post (bS, bT) (nI p) (nI q) := by
  have hSq := qg_S25 hV (l := q) (by omega)
  unfold wpY_covers
  refine qy_complete hV hH hp (fun hwp => br_f (by decide) ?_) (fun z => br_t rfl (h0 (fun y => z y.1)))
  refine qy_complete hV hH hq (fun hwq => br_f (by decide) (And.intro (vp_in_nI (by omega) (by decide)) ?_)) (fun z => br_t rfl (h0 (fun y => z y.2.1)))
  rw [qy_sz hH (by omega)]
  refine qy_lies (n := 0) hV hH (by omega) (by omega) (Nat.le_refl _) (by decide) ?_
  refine qz_o_lt ?_ (fun z => h0 ?_) (fun z => h1 hwp hwq z)
  · intro a ha
    have := qp_ly_le _ a ha
    omega
  · intro y
    rw [y.2.2] at z
    exact absurd z (by decide)
theorem qy_covers_n1 {x y : Int32} {post : Int32 → Prop} (hx : x < 0 ∨ nI 4 ≤ x) (h0 : post 0) : wpY_covers post (bS, bT) x y := by
  unfold wpY_covers
  exact qy_complete_n hx (br_t rfl h0)
theorem qy_covers_n2 {p : Nat} {y : Int32} {post : Int32 → Prop} (hV : qg_V T S) (hH : qg_H T S bS bT) (hp : p < 4) (hy : y < 0 ∨ nI 4 ≤ y) (h0 : post 0) : wpY_covers post (bS, bT) (nI p) y := by
  unfold wpY_covers
  refine qy_complete hV hH hp (fun hwp => br_f (by decide) ?_) (fun z => br_t rfl h0)
  exact qy_complete_n hy (br_t rfl h0)
theorem qy_putH {l x : Nat} (hV : qg_V T S) (hH : qg_H T S bS bT) (hl : l < 5) (h25 : S l < 25) : qg_H (qg_T' T S l x) (qg_S' S l (S l + 1)) (upd bS l (nI (S l + 1))) (upd bT (25 * l + S l) (nI x)) := by
  refine ⟨?_, ?_⟩
  · intro m hm
    by_cases z : m = l
    · subst z; rw [pk_us, qg_S's]
    · rw [pk_un z, qg_S'n z]; exact hH.1 m hm
  · intro m hm k hk
    by_cases z : m = l
    · subst z
      rw [qg_S's] at hk
      by_cases y : k = S m
      · subst y; rw [pk_us, qg_T's]
      · rw [pk_un (by omega), qg_T'n (fun w => y w.2)]; exact hH.2 m hm k (by omega)
    · rw [qg_S'n z] at hk
      have := qg_S25 hV hm
      rw [pk_un (by omega), qg_T'n (fun w => z w.1)]; exact hH.2 m hm k hk
theorem qy_takeH {l : Nat} (hH : qg_H T S bS bT) : qg_H T (qg_S' S l (S l - 1)) (upd bS l (nI (S l - 1))) bT := by
  refine ⟨?_, ?_⟩
  · intro m hm
    by_cases z : m = l
    · subst z; rw [pk_us, qg_S's]
    · rw [pk_un z, qg_S'n z]; exact hH.1 m hm
  · intro m hm k hk
    by_cases z : m = l
    · subst z
      rw [qg_S's] at hk
      exact hH.2 m hm k (by omega)
    · rw [qg_S'n z] at hk
      exact hH.2 m hm k hk
theorem qy_append {l x w : Nat} {post : Int32 → SY → Prop} (hV : qg_V T S) (hH : qg_H T S bS bT) (hl : l < 5) (hw : w ≤ 25) (h1 : ¬ qp_op (T l) (S l) = 0 → S l < w → post (nI (S l + 1)) (upd bS l (nI (S l + 1)), upd bT (25 * l + S l) (nI x))) (h0 : ¬ (¬ qp_op (T l) (S l) = 0 ∧ S l < w) → post (-2) (bS, bT)) : wpY_append post (bS, bT) (nI l) (nI x) (nI w) := by
  have hs := qy_sz hH hl
  have hSl := qg_S25 hV hl
  have hc : (nI l).toNatClampNeg = l := nI_clamp (by omega)
  unfold wpY_append
  refine qy_done hV hH hl (fun h => br_f (by decide) (h0 (fun z => z.1 h))) (fun h => br_t rfl (And.intro (vp_in_nI hl (by decide)) ?_))
  refine pk_lt (S l) w (fun hlt => ?_) (fun hge => h0 (by omega)) hs rfl
  have hi : vp_in ((25 : Int32) * nI l + bS (nI l).toNatClampNeg) 125 := by rw [hs]; exact qy_in hl (by omega)
  have hv : vp_in (nI l) 5 := vp_in_nI hl (by decide)
  refine And.intro hv (And.intro hi ?_)
  refine nm_r (e' := upd bT (25 * l + S l) (nI x)) ?_ (And.intro hv (And.intro hv ?_))
  · rw [hs, qa_25, nI_clamp (by omega)]
  · refine nm_r (e' := upd bS l (nI (S l + 1))) ?_ (And.intro hv ?_)
    · rw [hs, hc, nI_1]
    · rw [hc, pk_us]
      exact h1 h hlt
theorem qy_tookk {l : Nat} {post : Int32 → SY → Prop} (hV : qg_V T S) (hH : qg_H T S bS bT) (hl : l < 5) (h1 : 0 < S l → post (nI (T l (S l - 1))) (upd bS l (nI (S l - 1)), bT)) (h0 : S l = 0 → post (-1) (bS, bT)) : wpY_take post (bS, bT) (nI l) := by
  have hs := qy_sz hH hl
  have hSl := qg_S25 hV hl
  have hc : (nI l).toNatClampNeg = l := nI_clamp (by omega)
  have hv : vp_in (nI l) 5 := vp_in_nI hl (by decide)
  unfold wpY_take
  refine And.intro hv (pk_eq (S l) 0 h0 (fun hne => ?_) hs rfl)
  have hpos : 0 < S l := by omega
  refine And.intro hv (And.intro hv (nm_r (e' := upd bS l (nI (S l - 1))) ?_ (And.intro hv ?_)))
  · obtain ⟨c, hcc⟩ : ∃ c, S l = c + 1 := ⟨S l - 1, by omega⟩
    rw [hs, hc, hcc, nI_pred, Nat.add_sub_cancel]
  · rw [hc, pk_us]
    refine And.intro (qy_in hl (by omega)) ?_
    rw [qy_tk hV hH hl (by omega)]
    exact h1 hpos
end QY2
end
section
section QX
variable {T : Nat → Nat → Nat} {S : Nat → Nat} {fc fk fs : Int32} {aS aT aP aU aR : Nat → Int32} {aW : Nat → Int64} {aB aA aF aE : Nat → Int32}
theorem qx_sz {p : Nat} (hB : qg_B T S fc aS aT aU) (hp : p < 4) : aS (nI p).toNatClampNeg = nI (S p) := by
  rw [nI_clamp (by omega)]; exact hB.2.1 p hp
theorem qx_tk {p k : Nat} (hV : qg_V T S) (hB : qg_B T S fc aS aT aU) (hp : p < 4) (hk : k < S p) : aT (nI p * 9 + nI k).toNatClampNeg = nI (T p k) := by
  have := hV.1 p hp
  rw [qa_9, nI_clamp (by omega)]; exact hB.2.2.1 p hp k hk
theorem qx_in {p k : Nat} (hp : p < 4) (hk : k < 9) : vp_in (nI p * 9 + nI k) 36 := by
  rw [qa_9]; exact vp_in_nI (by omega) (by omega)
theorem qx_sub {k : Nat} (hV : qg_V T S) (hB : qg_B T S fc aS aT aU) (hk : k < S 4) : aU (nI k).toNatClampNeg = nI (T 4 k) := by
  have := hV.2.1
  rw [nI_clamp (by omega)]; exact hB.2.2.2 k hk
theorem qx_arity {x : Nat} {post : Int32 → Prop} (hx : x ≤ 7) (h : post (nI (qp_ar x))) : wpX_arity post (nI x) := by
  refine pk_le 2 x (fun h1 => pk_le 4 x (fun h3 => ?_) (fun h3 => ?_)) (fun h1 => ?_)
  · rw [qp_ar0 (by omega)] at h; exact h
  · rw [qp_ar1 (by omega) (by omega)] at h; exact h
  · rw [qp_ar2 (by omega)] at h; exact h
theorem qx_missing4 {p : Nat} {post : Int32 → Prop} (hV : qg_V T S) (hB : qg_B T S fc aS aT aU) (hp : p < 4) (hpost : post (nI (qp_op (T p) (S p)))) :
    ∀ d k, k + d = S p → ∀ n, d < n → wX_missing_4 post (nI p) fc fk fs aS aT aP aU aR aW aB aA aF aE n (nI (qp_op (T p) k)) (nI k) := by
  have hs := qx_sz hB hp
  have hS := hV.1 p hp
  intro d
  induction d with
  | zero =>
    intro k hk n hn
    obtain ⟨m, rfl⟩ : ∃ m, n = m + 1 := ⟨n - 1, by omega⟩
    have hk' : k = S p := by omega
    subst hk'
    refine And.intro (vp_in_nI hp (by decide)) (br_t ?_ hpost)
    rw [hs]; exact nI_le (Nat.le_refl _) (by omega)
  | succ d ih =>
    intro k hk n hn
    obtain ⟨m, rfl⟩ : ∃ m, n = m + 1 := ⟨n - 1, by omega⟩
    refine And.intro (vp_in_nI hp (by decide)) (br_f ?_ (And.intro (qx_in hp (by omega)) ?_))
    · rw [hs]; exact nI_ge (by omega) (by omega)
    · rw [qx_tk hV hB hp (by omega)]
      refine qx_arity (hV.2.2.1 p hp k (by omega)) ?_
      exact nm_r (qa_need (qg_VV hV (l := p) (by omega) k (by omega))) (nm_r (nI_1 k) (ih (k + 1) (by omega) m (by omega)))
theorem qx_missing {p : Nat} {post : Int32 → Prop} (hV : qg_V T S) (hB : qg_B T S fc aS aT aU) (hp : p < 4) (hpost : post (nI (qp_op (T p) (S p)))) : wpX_missing post (fc, fk, fs, aS, aT, aP, aU, aR, aW, aB, aA, aF, aE) (nI p) :=
  Exists.intro (S p + 1) (qx_missing4 hV hB hp hpost (S p) 0 (by omega) _ (by omega))
theorem qx_missS4 {post : Int32 → Prop} (hV : qg_V T S) (hB : qg_B T S fc aS aT aU) (hpost : post (nI (qp_op (T 4) (S 4)))) :
    ∀ d k, k + d = S 4 → ∀ n, d < n → wX_missingInSubject_4 post fc fk fs aS aT aP aU aR aW aB aA aF aE n (nI (qp_op (T 4) k)) (nI k) := by
  have hS := hV.2.1
  intro d
  induction d with
  | zero =>
    intro k hk n hn
    obtain ⟨m, rfl⟩ : ∃ m, n = m + 1 := ⟨n - 1, by omega⟩
    have hk' : k = S 4 := by omega
    subst hk'
    exact pk_le (S 4) (S 4) (fun _ => hpost) (fun h => absurd h (Nat.lt_irrefl _)) hB.1 rfl
  | succ d ih =>
    intro k hk n hn
    obtain ⟨m, rfl⟩ : ∃ m, n = m + 1 := ⟨n - 1, by omega⟩
    refine pk_le (S 4) k (fun h => absurd h (by omega)) (fun h => And.intro (vp_in_nI (by omega) (by decide)) ?_) hB.1 rfl
    rw [qx_sub hV hB h]
    refine qx_arity (by have := hV.2.2.2.1 k h; omega) ?_
    exact nm_r (qa_need (qg_VV hV (l := 4) (by omega) k (by omega))) (nm_r (nI_1 k) (ih (k + 1) (by omega) m (by omega)))
theorem qx_missS {post : Int32 → Prop} (hV : qg_V T S) (hB : qg_B T S fc aS aT aU) (hpost : post (nI (qp_op (T 4) (S 4)))) : wpX_missingInSubject post (fc, fk, fs, aS, aT, aP, aU, aR, aW, aB, aA, aF, aE) :=
  Exists.intro (S 4 + 1) (qx_missS4 hV hB hpost (S 4) 0 (by omega) _ (by omega))
theorem qx_pat {p : Nat} {post : Int32 → Prop} (hp : p < 4) (h : post 1) : wpX_isPattern post (nI p) :=
  br_f (nI_pos (by omega)) (br_f (nI_ge (b := 4) hp (by decide)) h)
theorem qx_pat_n {x : Int32} {post : Int32 → Prop} (hx : x < 0 ∨ nI 4 ≤ x) (h : post 0) : wpX_isPattern post x := by
  refine br_c (fun _ => h) (fun z => br_t ?_ h)
  rcases hx with y | y
  · exact absurd y z
  · exact y
theorem qx_opb (T : Nat → Nat → Nat) {S : Nat → Nat} {l : Nat} (h : S l ≤ 25) : qp_op (T l) (S l) < 2 ^ 31 := by
  have := qp_op_le (T l) (S l)
  omega
theorem qx_complete {p : Nat} {post : Int32 → Prop} (hV : qg_V T S) (hB : qg_B T S fc aS aT aU) (hp : p < 4) (h1 : qp_op (T p) (S p) = 0 → post 1) (h0 : ¬ qp_op (T p) (S p) = 0 → post 0) : wpX_complete post (fc, fk, fs, aS, aT, aP, aU, aR, aW, aB, aA, aF, aE) (nI p) := by
  have ho := qx_opb T (qg_S25 hV (l := p) (by omega))
  unfold wpX_complete
  refine qx_pat hp (br_f (by decide) ?_)
  exact qx_missing hV hB hp (pk_eq (qp_op (T p) (S p)) 0 h1 h0 rfl rfl ho (by omega))
theorem qx_complete_n {x : Int32} {post : Int32 → Prop} (hx : x < 0 ∨ nI 4 ≤ x) (h0 : post 0) : wpX_complete post (fc, fk, fs, aS, aT, aP, aU, aR, aW, aB, aA, aF, aE) x := by
  unfold wpX_complete
  exact qx_pat_n hx (br_t rfl h0)
theorem qx_whole {post : Int32 → Prop} (hV : qg_V T S) (hB : qg_B T S fc aS aT aU) (h1 : qp_op (T 4) (S 4) = 0 → post 1) (h0 : ¬ qp_op (T 4) (S 4) = 0 → post 0) : wpX_whole post (fc, fk, fs, aS, aT, aP, aU, aR, aW, aB, aA, aF, aE) := by
  have ho := qx_opb T (qg_S25 hV (l := 4) (by omega))
  unfold wpX_whole
  exact qx_missS hV hB (pk_eq (qp_op (T 4) (S 4)) 0 h1 h0 rfl rfl ho (by omega))
theorem qx_extend {p x : Nat} {post : Int32 → SX → Prop} (hV : qg_V T S) (hB : qg_B T S fc aS aT aU) (hp : p < 4) (hx : x ≤ 7) (h1 : ¬ qp_op (T p) (S p) = 0 → S p < 9 → post (nI (S p + 1)) (fc, 0, fs, (upd aS p (nI (S p + 1))), (upd aT (p * 9 + S p) (nI x)), aP, aU, aR, aW, aB, aA, aF, aE)) (h0 : ¬ (¬ qp_op (T p) (S p) = 0 ∧ S p < 9) → post (-2) (fc, fk, fs, aS, aT, aP, aU, aR, aW, aB, aA, aF, aE)) : wpX_extend post (fc, fk, fs, aS, aT, aP, aU, aR, aW, aB, aA, aF, aE) (nI p) (nI x) := by
  have hs := qx_sz hB hp
  have hc : (nI p).toNatClampNeg = p := nI_clamp (by omega)
  have ho := qx_opb T (qg_S25 hV (l := p) (by omega))
  have hS := hV.1 p hp
  have hv : vp_in (nI p) 4 := vp_in_nI hp (by decide)
  unfold wpX_extend
  refine qx_pat hp (br_f (by decide) (br_f (nI_pos (by omega)) (br_t (nI_le (b := 7) hx (by decide)) (And.intro hv ?_))))
  refine pk_le 9 (S p) (fun h => h0 (by omega)) (fun h => ?_) rfl hs (by omega) (by omega)
  refine qx_missing hV hB hp (pk_eq (qp_op (T p) (S p)) 0 (fun z => h0 (fun y => y.1 z)) (fun z => And.intro hv ?_) rfl rfl ho (by omega))
  refine And.intro (by rw [hs]; exact qx_in hp h) ?_
  refine nm_r (e' := upd aT (p * 9 + S p) (nI x)) ?_ (And.intro hv (And.intro hv ?_))
  · rw [hs, qa_9, nI_clamp (by omega), qa_bb (by omega)]
  · refine nm_r (e' := upd aS p (nI (S p + 1))) ?_ (And.intro hv ?_)
    · rw [hs, hc, nI_1, qa_bb (by omega)]
    · rw [hc, pk_us]
      exact h1 z h
theorem qx_shorten {p : Nat} {post : Int32 → SX → Prop} (hV : qg_V T S) (hB : qg_B T S fc aS aT aU) (hp : p < 4) (h1 : 0 < S p → post (nI (T p (S p - 1))) (fc, 0, fs, (upd aS p (nI (S p - 1))), aT, aP, aU, aR, aW, aB, aA, aF, aE)) (h0 : S p = 0 → post (-1) (fc, fk, fs, aS, aT, aP, aU, aR, aW, aB, aA, aF, aE)) : wpX_shorten post (fc, fk, fs, aS, aT, aP, aU, aR, aW, aB, aA, aF, aE) (nI p) := by
  have hs := qx_sz hB hp
  have hS := hV.1 p hp
  have hc : (nI p).toNatClampNeg = p := nI_clamp (by omega)
  have hv : vp_in (nI p) 4 := vp_in_nI hp (by decide)
  unfold wpX_shorten
  refine qx_pat hp (br_f (by decide) (And.intro hv ?_))
  refine pk_eq (S p) 0 h0 (fun h => And.intro hv (And.intro hv ?_)) hs rfl
  refine nm_r (e' := upd aS p (nI (S p - 1))) ?_ (And.intro hv ?_)
  · obtain ⟨c, hcc⟩ : ∃ c, S p = c + 1 := ⟨S p - 1, by omega⟩
    rw [hs, hc, hcc, nI_pred, Nat.add_sub_cancel, qa_bb (by omega)]
  · rw [hc, pk_us]
    refine And.intro (qx_in hp (by omega)) ?_
    rw [qx_tk hV hB hp (by omega)]
    exact h1 (by omega)
theorem qx_grow {x : Nat} {post : Int32 → SX → Prop} (hV : qg_V T S) (hB : qg_B T S fc aS aT aU) (hx : x ≤ 6) (h1 : ¬ qp_op (T 4) (S 4) = 0 → S 4 < 25 → post (nI (S 4 + 1)) ((nI (S 4 + 1)), 0, fs, aS, aT, aP, (upd aU (S 4) (nI x)), aR, aW, aB, aA, aF, aE)) (h0 : ¬ (¬ qp_op (T 4) (S 4) = 0 ∧ S 4 < 25) → post (-2) (fc, fk, fs, aS, aT, aP, aU, aR, aW, aB, aA, aF, aE)) : wpX_grow post (fc, fk, fs, aS, aT, aP, aU, aR, aW, aB, aA, aF, aE) (nI x) := by
  have hS := hV.2.1
  have ho := qx_opb T (qg_S25 hV (l := 4) (by omega))
  unfold wpX_grow
  refine br_f (nI_pos (by omega)) (br_t (nI_le (b := 6) hx (by decide)) ?_)
  refine pk_le 25 (S 4) (fun h => h0 (by omega)) (fun h => ?_) rfl hB.1 (by omega) (by omega)
  refine qx_missS hV hB (pk_eq (qp_op (T 4) (S 4)) 0 (fun z => h0 (fun y => y.1 z)) (fun z => ?_) rfl rfl ho (by omega))
  have e := hB.1
  subst e
  refine And.intro (vp_in_nI h (by decide)) (nm_r (e' := upd aU (S 4) (nI x)) ?_ (nm_r (nI_1 _) (h1 z h)))
  rw [nI_clamp (by omega), qa_bb (by omega)]
theorem qx_prune {post : Int32 → SX → Prop} (hV : qg_V T S) (hB : qg_B T S fc aS aT aU) (h1 : 0 < S 4 → post (nI (T 4 (S 4 - 1))) ((nI (S 4 - 1)), 0, fs, aS, aT, aP, aU, aR, aW, aB, aA, aF, aE)) (h0 : S 4 = 0 → post (-1) (fc, fk, fs, aS, aT, aP, aU, aR, aW, aB, aA, aF, aE)) : wpX_prune post (fc, fk, fs, aS, aT, aP, aU, aR, aW, aB, aA, aF, aE) := by
  have hS := hV.2.1
  unfold wpX_prune
  refine pk_eq (S 4) 0 h0 (fun h => ?_) hB.1 rfl
  refine nm_r (e' := nI (S 4 - 1)) ?_ (And.intro (vp_in_nI (by omega) (by decide)) ?_)
  · obtain ⟨c, hcc⟩ : ∃ c, S 4 = c + 1 := ⟨S 4 - 1, by omega⟩
    rw [hB.1, hcc, nI_pred, Nat.add_sub_cancel]
  · rw [qx_sub hV hB (by omega)]
    exact h1 (by omega)
theorem qx_putB {p x : Nat} (hV : qg_V T S) (hB : qg_B T S fc aS aT aU) (hp : p < 4) (h9 : S p < 9) : qg_B (qg_T' T S p x) (qg_S' S p (S p + 1)) fc (upd aS p (nI (S p + 1))) (upd aT (p * 9 + S p) (nI x)) aU := by
  obtain ⟨b1, b2, b3, b4⟩ := hB
  refine ⟨?_, ?_, ?_, ?_⟩
  · rw [qg_S'n (by omega)]; exact b1
  · intro m hm
    by_cases z : m = p
    · subst z; rw [pk_us, qg_S's]
    · rw [pk_un z, qg_S'n z]; exact b2 m hm
  · intro m hm k hk
    by_cases z : m = p
    · subst z
      rw [qg_S's] at hk
      by_cases y : k = S m
      · subst y; rw [pk_us, qg_T's]
      · rw [pk_un (by omega), qg_T'n (fun w => y w.2)]; exact b3 m hm k (by omega)
    · rw [qg_S'n z] at hk
      have := hV.1 m hm
      rw [pk_un (by omega), qg_T'n (fun w => z w.1)]; exact b3 m hm k hk
  · intro k hk
    rw [qg_S'n (by omega)] at hk
    rw [qg_T'n (fun w => by omega)]
    exact b4 k hk
theorem qx_putBs {x : Nat} (hB : qg_B T S fc aS aT aU) : qg_B (qg_T' T S 4 x) (qg_S' S 4 (S 4 + 1)) (nI (S 4 + 1)) aS aT (upd aU (S 4) (nI x)) := by
  obtain ⟨b1, b2, b3, b4⟩ := hB
  refine ⟨?_, ?_, ?_, ?_⟩
  · rw [qg_S's]
  · intro m hm
    rw [qg_S'n (by omega)]; exact b2 m hm
  · intro m hm k hk
    rw [qg_S'n (by omega)] at hk
    rw [qg_T'n (fun w => by omega)]; exact b3 m hm k hk
  · intro k hk
    rw [qg_S's] at hk
    by_cases y : k = S 4
    · subst y; rw [pk_us, qg_T's]
    · rw [pk_un y, qg_T'n (fun w => y w.2)]; exact b4 k (by omega)
theorem qx_takeB {p : Nat} (hB : qg_B T S fc aS aT aU) (hp : p < 4) : qg_B T (qg_S' S p (S p - 1)) fc (upd aS p (nI (S p - 1))) aT aU := by
  obtain ⟨b1, b2, b3, b4⟩ := hB
  refine ⟨?_, ?_, ?_, ?_⟩
  · rw [qg_S'n (by omega)]; exact b1
  · intro m hm
    by_cases z : m = p
    · subst z; rw [pk_us, qg_S's]
    · rw [pk_un z, qg_S'n z]; exact b2 m hm
  · intro m hm k hk
    by_cases z : m = p
    · subst z
      rw [qg_S's] at hk
      exact b3 m hm k (by omega)
    · rw [qg_S'n z] at hk
      exact b3 m hm k hk
  · intro k hk
    rw [qg_S'n (by omega)] at hk
    exact b4 k hk
theorem qx_takeBs (hB : qg_B T S fc aS aT aU) : qg_B T (qg_S' S 4 (S 4 - 1)) (nI (S 4 - 1)) aS aT aU := by
  obtain ⟨b1, b2, b3, b4⟩ := hB
  refine ⟨?_, ?_, ?_, ?_⟩
  · rw [qg_S's]
  · intro m hm
    rw [qg_S'n (by omega)]; exact b2 m hm
  · intro m hm k hk
    rw [qg_S'n (by omega)] at hk
    exact b3 m hm k hk
  · intro k hk
    rw [qg_S's] at hk
    exact b4 k (by omega)
end QX
end
section
/-! bits of a long -/
def qb_b (w : Int64) (j : Nat) : Bool := w.toBitVec.getLsbD j
theorem qb_test {w : Int64} {j : Nat} (hj : j < 64) : ((w.toUInt64 >>> ((nI j).toInt64.toUInt64 &&& Int64.toUInt64 63)).toInt64 &&& 1) = 0 ↔ qb_b w j = false := by
  rw [wb_cu j hj]
  refine ts_bit hj ?_
  show (BitVec.ofNat 64 j).toNat = j
  rw [BitVec.toNat_ofNat]
  exact Nat.mod_eq_of_lt (by omega)
theorem qb_one {w : Int64} {j : Nat} (hj : j < 64) : ((w.toUInt64 >>> ((nI j).toInt64.toUInt64 &&& Int64.toUInt64 63)).toInt64 &&& 1) = if qb_b w j = true then 1 else 0 := by
  have h := qb_test (w := w) hj
  cases e : qb_b w j with
  | false => exact h.mpr e
  | true =>
    obtain ⟨n, hn, rfl⟩ := wb_of w
    rw [wb_bit hn hj] at h ⊢
    rcases Nat.mod_two_eq_zero_or_one (n / 2 ^ j) with z | z
    · rw [z, e] at h
      exact absurd (h.mp rfl) (by decide)
    · rw [z]; rfl
theorem qb_tp : ∀ c, c < 64 → ((1 : Int64) <<< ((nI c).toInt64 &&& 63)).toBitVec = BitVec.twoPow 64 c := by decide +kernel
theorem qb_set {w : Int64} {c j : Nat} (hc : c < 64) : qb_b (w ||| ((1 : Int64) <<< ((nI c).toInt64 &&& 63))) j = true ↔ qb_b w j = true ∨ j = c := by
  unfold qb_b
  rw [Int64.toBitVec_or, BitVec.getLsbD_or, qb_tp c hc, BitVec.getLsbD_twoPow, Bool.or_eq_true, Bool.and_eq_true, decide_eq_true_iff, decide_eq_true_iff]
  constructor
  · intro h
    rcases h with h | h
    · exact Or.inl h
    · exact Or.inr h.2.symm
  · intro h
    rcases h with h | h
    · exact Or.inl h
    · exact Or.inr ⟨hc, h.symm⟩
theorem qb_0 (j : Nat) : ¬ qb_b 0 j = true := by
  have : qb_b 0 j = false := BitVec.getLsbD_zero
  rw [this]; decide

/-- token k of pattern p belongs to the set of a tree with operator o and parts in the sets w1, w2 -/
def qc_P (T : Nat → Nat → Nat) (S : Nat → Nat) (o : Nat) (w1 w2 : Int64) (p k : Nat) : Prop :=
  (1 ≤ qp_ar o → qb_b w1 (p * 9 + (k + 1)) = true) ∧ (qp_ar o = 2 → qb_b w2 (p * 9 + qp_bh (T p) (S p) (k + 1)) = true)
def qc_C (T : Nat → Nat → Nat) (S : Nat → Nat) (o : Nat) (w1 w2 : Int64) (p k : Nat) : Prop :=
  qp_op (T p) (S p) = 0 ∧ k < S p ∧ (T p k = 7 ∨ (T p k = o ∧ qc_P T S o w1 w2 p k))
def qc_I (T : Nat → Nat → Nat) (S : Nat → Nat) (o : Nat) (w1 w2 : Int64) (p k : Nat) (w : Int64) : Prop :=
  ∀ p', p' < 4 → ∀ k', k' < 9 → (qb_b w (p' * 9 + k') = true ↔ p' * 9 + k' < p * 9 + k ∧ qc_C T S o w1 w2 p' k')
def qc_CB (T : Nat → Nat → Nat) (S : Nat → Nat) (o : Nat) (w1 w2 w : Int64) : Prop :=
  ∀ p, p < 4 → ∀ k, k < 9 → (qb_b w (p * 9 + k) = true ↔ qc_C T S o w1 w2 p k)
section QC
variable {T : Nat → Nat → Nat} {S : Nat → Nat} {o : Nat} {w1 w2 : Int64}
theorem qc_I_y {p k : Nat} {w : Int64} (hp : p < 4) (hk : k < 9) (h : qc_I T S o w1 w2 p k w) (hc : qc_C T S o w1 w2 p k) : qc_I T S o w1 w2 p (k + 1) (w ||| ((1 : Int64) <<< ((nI (p * 9 + k)).toInt64 &&& 63))) := by
  intro p' hp' k' hk'
  rw [qb_set (by omega), h p' hp' k' hk']
  constructor
  · intro z
    rcases z with z | z
    · exact ⟨by omega, z.2⟩
    · have e1 : p' = p := by omega
      have e2 : k' = k := by omega
      subst e1 e2
      exact ⟨by omega, hc⟩
  · intro ⟨z1, z2⟩
    by_cases y : p' * 9 + k' = p * 9 + k
    · exact Or.inr y
    · exact Or.inl ⟨by omega, z2⟩
theorem qc_I_n {p k : Nat} {w : Int64} (hk : k < 9) (h : qc_I T S o w1 w2 p k w) (hc : ¬ qc_C T S o w1 w2 p k) : qc_I T S o w1 w2 p (k + 1) w := by
  intro p' hp' k' hk'
  rw [h p' hp' k' hk']
  constructor
  · intro ⟨z1, z2⟩
    exact ⟨by omega, z2⟩
  · intro ⟨z1, z2⟩
    refine ⟨?_, z2⟩
    by_cases y : p' * 9 + k' = p * 9 + k
    · have e1 : p' = p := by omega
      have e2 : k' = k := by omega
      subst e1 e2
      exact absurd z2 hc
    · omega
theorem qc_I_e {p k : Nat} {w : Int64} (h : qc_I T S o w1 w2 p k w) (hk : k ≤ 9) (hc : ∀ j, k ≤ j → ¬ qc_C T S o w1 w2 p j) : qc_I T S o w1 w2 (p + 1) 0 w := by
  intro p' hp' k' hk'
  rw [h p' hp' k' hk']
  constructor
  · intro ⟨z1, z2⟩
    exact ⟨by omega, z2⟩
  · intro ⟨z1, z2⟩
    refine ⟨?_, z2⟩
    by_cases y : p' * 9 + k' < p * 9 + k
    · exact y
    · have e1 : p' = p := by omega
      subst e1
      exact absurd z2 (hc k' (by omega))
theorem qc_I_0 : qc_I T S o w1 w2 0 0 0 := by
  intro p' _ k' _
  constructor
  · intro z; exact absurd z (qb_0 _)
  · intro z; exact absurd z.1 (by omega)
theorem qc_I_4 {w : Int64} (h : qc_I T S o w1 w2 4 0 w) : qc_CB T S o w1 w2 w := by
  intro p hp k hk
  rw [h p hp k hk]
  exact ⟨fun z => z.2, fun z => ⟨by omega, z⟩⟩
theorem qc_P_c {w1' w2' : Int64} {p k : Nat} (h1 : 1 ≤ qp_ar o → w1 = w1') (h2 : qp_ar o = 2 → w2 = w2') (h : qc_P T S o w1 w2 p k) : qc_P T S o w1' w2' p k := by
  refine ⟨fun z => ?_, fun z => ?_⟩
  · rw [← h1 z]; exact h.1 z
  · rw [← h2 z]; exact h.2 z
theorem qc_C_c {w1' w2' : Int64} {p k : Nat} (h1 : 1 ≤ qp_ar o → w1 = w1') (h2 : qp_ar o = 2 → w2 = w2') (h : qc_C T S o w1 w2 p k) : qc_C T S o w1' w2' p k :=
  ⟨h.1, h.2.1, h.2.2.imp id (fun z => ⟨z.1, qc_P_c h1 h2 z.2⟩)⟩
theorem qc_CB_c {w1' w2' w : Int64} (h1 : 1 ≤ qp_ar o → w1 = w1') (h2 : qp_ar o = 2 → w2 = w2') (h : qc_CB T S o w1 w2 w) : qc_CB T S o w1' w2' w := by
  intro p hp k hk
  rw [h p hp k hk]
  exact ⟨qc_C_c h1 h2, qc_C_c (fun z => (h1 z).symm) (fun z => (h2 z).symm)⟩
end QC

/-- the set of node n -/
def qc_N (T : Nat → Nat → Nat) (S : Nat → Nat) (n : Nat) (w : Int64) : Prop :=
  ∀ p, p < 4 → ∀ k, k < 9 → (qb_b w (p * 9 + k) = true ↔ qp_op (T p) (S p) = 0 ∧ k < S p ∧ qp_M (T p) (S p) (T 4) (S 4) k n)
section QN
variable {T : Nat → Nat → Nat} {S : Nat → Nat}
/-- from the parts' sets the node's set -/
theorem qc_N_of {n : Nat} {w1 w2 w : Int64} (hV : qg_V T S) (hw : qp_op (T 4) (S 4) = 0) (hn : n < S 4) (h1 : 1 ≤ qp_ar (T 4 n) → qc_N T S (n + 1) w1) (h2 : qp_ar (T 4 n) = 2 → qc_N T S (qp_bh (T 4) (S 4) (n + 1)) w2) (h : qc_CB T S (T 4 n) w1 w2 w) : qc_N T S n w := by
  intro p hp k hk
  rw [h p hp k hk]
  have hVp := qg_VV hV (l := p) (by omega)
  have hV4 := qg_VV hV (l := 4) (by omega)
  have hS9 := hV.1 p hp
  have h6 := hV.2.2.2.1 n hn
  unfold qc_C
  refine ⟨fun ⟨a, b, c⟩ => ⟨a, b, ?_⟩, fun ⟨a, b, c⟩ => ⟨a, b, ?_⟩⟩
  · rcases c with c | ⟨c, d⟩
    · exact qp_M_7 hVp a b c
    · have h7 : ¬ T p k = 7 := by omega
      have ar3 := qp_ar_le (T 4 n)
      rcases Nat.lt_or_ge (qp_ar (T 4 n)) 1 with z | z
      · exact qp_M_0 hVp a b h7 hn c.symm (by rw [c]; omega)
      · have hk1 := qp_nx hVp a b (by rw [c]; exact z)
        have m1 := ((h1 z p hp (k + 1) (by omega)).mp (d.1 z)).2.2
        by_cases y : qp_ar (T 4 n) = 2
        · obtain ⟨hk2, _⟩ := qp_bh_2 hVp a b (by rw [c]; exact y)
          have m2 := ((h2 y p hp _ (by omega)).mp (d.2 y)).2.2
          exact (qp_M_2 hVp a hV4 hw b h7 hn c.symm (by rw [c]; exact y)).mpr ⟨m1, m2⟩
        · exact (qp_M_1 hVp a b h7 hn c.symm (by rw [c]; omega)).mpr m1
  · by_cases h7 : T p k = 7
    · exact Or.inl h7
    · have e := (qp_M_first hVp a b h7 c).2
      refine Or.inr ⟨e.symm, ?_⟩
      have ar3 := qp_ar_le (T 4 n)
      refine ⟨fun z => ?_, fun y => ?_⟩
      · have hk1 := qp_nx hVp a b (by rw [← e]; exact z)
        refine (h1 z p hp (k + 1) (by omega)).mpr ⟨a, hk1, ?_⟩
        by_cases y : qp_ar (T 4 n) = 2
        · exact ((qp_M_2 hVp a hV4 hw b h7 hn e (by rw [← e]; exact y)).mp c).1
        · exact (qp_M_1 hVp a b h7 hn e (by rw [← e]; omega)).mp c
      · obtain ⟨hk2, _⟩ := qp_bh_2 hVp a b (by rw [← e]; exact y)
        exact (h2 y p hp _ (by omega)).mpr ⟨a, hk2, ((qp_M_2 hVp a hV4 hw b h7 hn e (by rw [← e]; exact y)).mp c).2⟩
theorem qc_N_FF {n : Nat} {w : Int64} (hV : qg_V T S) (hw : qp_op (T 4) (S 4) = 0) (hn : n < S 4) (h : qc_N T S n w) : qz_F (fun p => qb_b w (p * 9)) 4 = qg_FF T S n := by
  refine qz_F_c 4 (fun p hp => ?_)
  have hVp := qg_VV hV (l := p) (by omega)
  have h0 := h p hp 0 (by omega)
  have e : qb_b w (p * 9) = true ↔ qg_fb T S p n = true := by
    rw [qg_fb_t]
    refine h0.trans ⟨fun ⟨a, b, c⟩ => ⟨a, hw, hn, (qp_M_all hVp a).mp c⟩, fun ⟨a, _, _, c⟩ => ⟨a, qp_pos a, (qp_M_all hVp a).mpr c⟩⟩
  show qb_b w (p * 9) = qg_fb T S p n
  cases e1 : qb_b w (p * 9) with
  | true => exact (e.mp e1).symm
  | false =>
    cases e2 : qg_fb T S p n with
    | false => rfl
    | true =>
      have := e.mpr e2
      rw [e1] at this
      exact this
end QN
/-- the place in the table -/
def qc_pl (o f g : Nat) : Nat := if o < 2 then (o * 26 + f) * 26 + g else if o < 4 then 1352 + (o - 2) * 26 + f else 1400 + o
def qc_nm (o f g : Nat) : Prop := o < 7 ∧ f < 26 ∧ g < 26 ∧ (4 ≤ o → f = 0) ∧ (2 ≤ o → g = 0)
theorem qc_pl_lt {o f g : Nat} (h : qc_nm o f g) : qc_pl o f g < 1408 := by
  obtain ⟨h1, h2, h3, h4, h5⟩ := h
  unfold qc_pl
  split
  · omega
  · split <;> omega
theorem qc_pl_inj {o f g o' f' g' : Nat} (h : qc_nm o f g) (h' : qc_nm o' f' g') (e : qc_pl o f g = qc_pl o' f' g') : o = o' ∧ f = f' ∧ g = g' := by
  obtain ⟨h1, h2, h3, h4, h5⟩ := h
  obtain ⟨k1, k2, k3, k4, k5⟩ := h'
  unfold qc_pl at e
  split at e
  · split at e
    · omega
    · split at e <;> omega
  · split at e
    · split at e
      · omega
      · split at e <;> omega
    · split at e
      · omega
      · split at e <;> omega
def qc_TI (T : Nat → Nat → Nat) (S : Nat → Nat) (c : Nat) (aB : Nat → Int32) (aW : Nat → Int64) : Prop :=
  ∀ j, j < 1408 → aB j = -1 ∨ ∃ o f g i, qc_pl o f g = j ∧ qc_nm o f g ∧ (1 ≤ qp_ar o → f < c) ∧ (qp_ar o = 2 → g < c) ∧ i < c ∧ aB j = nI i ∧ qc_CB T S o (aW f) (aW g) (aW i)
end
section
section QM
variable {T : Nat → Nat → Nat} {S : Nat → Nat} {fc fk fs : Int32} {aS aT aP aU aR : Nat → Int32} {aW : Nat → Int64} {aB aA aF aE : Nat → Int32}
theorem qx_1 (a : Nat) : (1 : Int32) + nI a = nI (1 + a) := nI_add 1 a
/-- the spans of pattern p from token j on -/
def qm_I (T : Nat → Nat → Nat) (S : Nat → Nat) (p j : Nat) (a0 aP : Nat → Int32) : Prop :=
  (∀ k, j ≤ k → k < S p → aP (p * 9 + k) = nI (qp_bh (T p) (S p) k - k)) ∧ (∀ i, (i < p * 9 ∨ p * 9 + 9 ≤ i) → aP i = a0 i)
theorem qm_upd {p j : Nat} {a0 : Nat → Int32} {x : Int32} (hj : j < S p) (h9 : S p ≤ 9) (h : qm_I T S p (j + 1) a0 aP) (hx : x = nI (qp_bh (T p) (S p) j - j)) : qm_I T S p j a0 (upd aP (p * 9 + j) x) := by
  refine ⟨?_, ?_⟩
  · intro k h1 h2
    by_cases z : k = j
    · subst z; rw [pk_us]; exact hx
    · rw [pk_un (by omega)]; exact h.1 k (by omega) h2
  · intro i hi
    rw [pk_un (by omega)]; exact h.2 i hi
theorem qx_meas18 {p : Nat} {a0 : Nat → Int32} {post : SX → Prop} (hV : qg_V T S) (hB : qg_B T S fc aS aT aU) (hp : p < 4) (hw : qp_op (T p) (S p) = 0) (hpost : ∀ aP', qm_I T S p 0 a0 aP' → post (fc, fk, fs, aS, aT, aP', aU, aR, aW, aB, aA, aF, aE)) :
    ∀ j, j ≤ S p → ∀ aP, qm_I T S p j a0 aP → ∀ n, j < n → wX_measure_18 post (nI p) fc fk fs n (nI j + (-1)) aS aT aP aU aR aW aB aA aF aE := by
  have hS := hV.1 p hp
  have hVp := qg_VV hV (l := p) (by omega)
  intro j
  induction j with
  | zero =>
    intro hj aP hI n hn
    obtain ⟨m, rfl⟩ : ∃ m, n = m + 1 := ⟨n - 1, by omega⟩
    exact br_t (by decide) (hpost aP hI)
  | succ j ih =>
    intro hj aP hI n hn
    obtain ⟨m, rfl⟩ : ∃ m, n = m + 1 := ⟨n - 1, by omega⟩
    rw [pk_m1]
    obtain ⟨hE, hl⟩ := qp_bh_E hVp hw (k := j) (by omega)
    have hg := hE.1
    refine br_f (nI_pos (by omega)) (nm_r (qa_9 p j) (And.intro (vp_in_nI (by omega) (by decide)) ?_))
    rw [nI_clamp (by omega), hB.2.2.1 p hp j (by omega)]
    refine qx_arity (hV.2.2.1 p hp j (by omega)) ?_
    have har := qp_ar_le (T p j)
    refine pk_le (qp_ar (T p j)) 0 (fun h0 => ?_) (fun h0 => ?_)
    · have e := qp_bh_0 hVp hw (k := j) (by omega) (by omega)
      unfold wX_measure_57
      refine br_t (nI_le (b := 1) (by omega) (by decide)) (And.intro (vp_in_nI (by omega) (by decide)) ?_)
      refine nm_r (e' := upd aP (p * 9 + j) (nI 1)) ?_ (nm_e (ih (by omega) _ (qm_upd (by omega) hS hI ?_) m (by omega)))
      · rw [nI_clamp (by omega)]
        exact congrArg _ (qa_bb (n := 1) (by decide))
      · rw [e, show j + 1 - j = 1 by omega]
    · have hj1 := qp_nx hVp hw (k := j) (by omega) (by omega)
      obtain ⟨hE1, hl1⟩ := qp_bh_E hVp hw hj1
      have hg1 := hE1.1
      have hz := hI.1 (j + 1) (Nat.le_refl _) hj1
      have hz' : aP (nI (p * 9 + j) + 1).toNatClampNeg = nI (qp_bh (T p) (S p) (j + 1) - (j + 1)) := by
        rw [nI_1, nI_clamp (by omega)]; exact hz
      refine And.intro (by rw [nI_1]; exact vp_in_nI (by omega) (by decide)) ?_
      unfold wX_measure_57
      rw [hz']
      refine pk_le (qp_ar (T p j)) 1 (fun h1 => And.intro (vp_in_nI (by omega) (by decide)) ?_) (fun h1 => ?_)
      · have e := qp_bh_1 hVp hw (k := j) (by omega) (by omega)
        refine nm_r (e' := upd aP (p * 9 + j) (nI (1 + (qp_bh (T p) (S p) (j + 1) - (j + 1))))) ?_ (nm_e (ih (by omega) _ (qm_upd (by omega) hS hI ?_) m (by omega)))
        · rw [nI_clamp (by omega), qx_1, Int32.add_zero, qa_bb (by omega)]
        · rw [e, show 1 + (qp_bh (T p) (S p) (j + 1) - (j + 1)) = qp_bh (T p) (S p) (j + 1) - j by omega]
      · obtain ⟨hj2, e⟩ := qp_bh_2 hVp hw (k := j) (by omega) (by omega)
        obtain ⟨hE2, hl2⟩ := qp_bh_E hVp hw hj2
        have hg2 := hE2.1
        have hix : nI (p * 9 + j) + 1 + nI (qp_bh (T p) (S p) (j + 1) - (j + 1)) = nI (p * 9 + qp_bh (T p) (S p) (j + 1)) := by
          rw [nI_1, nI_add, show p * 9 + j + 1 + (qp_bh (T p) (S p) (j + 1) - (j + 1)) = p * 9 + qp_bh (T p) (S p) (j + 1) by omega]
        rw [hix]
        refine And.intro (vp_in_nI (by omega) (by decide)) (And.intro (vp_in_nI (by omega) (by decide)) ?_)
        refine nm_r (e' := upd aP (p * 9 + j) (nI (qp_bh (T p) (S p) j - j))) ?_ (nm_e (ih (by omega) _ (qm_upd (by omega) hS hI rfl) m (by omega)))
        rw [nI_clamp (by omega), nI_clamp (by omega), hI.1 _ (by omega) hj2, qx_1, nI_add, qa_bb (by omega), show 1 + (qp_bh (T p) (S p) (j + 1) - (j + 1)) + (qp_bh (T p) (S p) (qp_bh (T p) (S p) (j + 1)) - qp_bh (T p) (S p) (j + 1)) = qp_bh (T p) (S p) j - j by omega]
def qm_S (T : Nat → Nat → Nat) (S : Nat → Nat) (p : Nat) (aP : Nat → Int32) : Prop :=
  qp_op (T p) (S p) = 0 → ∀ k, k < S p → aP (p * 9 + k) = nI (qp_bh (T p) (S p) k - k)
theorem qx_measure {p : Nat} {post : SX → Prop} (hV : qg_V T S) (hB : qg_B T S fc aS aT aU) (hp : p < 4) (hpost : ∀ aP', qm_S T S p aP' → (∀ i, (i < p * 9 ∨ p * 9 + 9 ≤ i) → aP' i = aP i) → post (fc, fk, fs, aS, aT, aP', aU, aR, aW, aB, aA, aF, aE)) : wpX_measure post (fc, fk, fs, aS, aT, aP, aU, aR, aW, aB, aA, aF, aE) (nI p) := by
  unfold wpX_measure
  refine qx_complete hV hB hp (fun hw => br_f (by decide) (And.intro (vp_in_nI hp (by decide)) ?_)) (fun hw => br_t rfl (hpost aP (fun z => absurd z hw) (fun _ _ => rfl)))
  rw [qx_sz hB hp, Int32.sub_eq_add_neg]
  refine nm_e (Exists.intro (S p + 1) (qx_meas18 (a0 := aP) hV hB hp hw (fun aP' h => hpost aP' (fun _ k hk => h.1 k (Nat.zero_le _) hk) h.2) (S p) (Nat.le_refl _) aP ⟨?_, fun _ _ => rfl⟩ _ (Nat.lt_succ_self _)))
  intro k h1 h2
  omega
end QM
end
section
section QK
variable {T : Nat → Nat → Nat} {S : Nat → Nat} {fc fk fs : Int32} {aS aT aP aU aR : Nat → Int32} {aW : Nat → Int64} {aB aA aF aE : Nat → Int32}
def qm_A (T : Nat → Nat → Nat) (S : Nat → Nat) (aP : Nat → Int32) : Prop := ∀ p, p < 4 → qm_S T S p aP
theorem qx_pfit25 {p k o : Nat} {w1 w2 : Int64} {post : Int32 → Prop} (hV : qg_V T S) (hA : qm_A T S aP) (hp : p < 4) (hw : qp_op (T p) (S p) = 0) (hk : k < S p) (ho : T p k = o) (hf : 1 ≤ qp_ar o → qb_b w1 (p * 9 + (k + 1)) = true) (h1 : qc_P T S o w1 w2 p k → post 1) (h0 : ¬ qc_P T S o w1 w2 p k → post 0) : wX_partsFit_25 post (nI (p * 9 + k)) w2 (nI (qp_ar o)) fc fk fs aS aT aP aU aR aW aB aA aF aE := by
  have hS := hV.1 p hp
  have hVp := qg_VV hV (l := p) (by omega)
  have har := qp_ar_le o
  unfold wX_partsFit_25
  refine pk_lt (qp_ar o) 2 (fun h => h1 ⟨hf, fun z => by omega⟩) (fun h => ?_)
  have hk1 := qp_nx hVp hw hk (by rw [ho]; omega)
  obtain ⟨hk2, _⟩ := qp_bh_2 hVp hw hk (by rw [ho]; omega)
  have hg := qp_bh_gt hVp hw hk1
  have e : aP (nI (p * 9 + k) + 1).toNatClampNeg = nI (qp_bh (T p) (S p) (k + 1) - (k + 1)) := by
    rw [nI_1, nI_clamp (by omega)]; exact hA p hp hw (k + 1) hk1
  refine And.intro (by rw [nI_1]; exact vp_in_nI (by omega) (by decide)) ?_
  rw [e, nI_1, nI_add, show p * 9 + k + 1 + (qp_bh (T p) (S p) (k + 1) - (k + 1)) = p * 9 + qp_bh (T p) (S p) (k + 1) by omega, qb_test (by omega)]
  refine br_c (fun z => h0 (fun y => ?_)) (fun z => h1 ⟨hf, fun _ => ts_nf z⟩)
  have := y.2 (by omega)
  rw [z] at this
  exact absurd this (by decide)
theorem qx_pfit {p k o : Nat} {w1 w2 : Int64} {post : Int32 → Prop} (hV : qg_V T S) (hA : qm_A T S aP) (hp : p < 4) (hw : qp_op (T p) (S p) = 0) (hk : k < S p) (ho : T p k = o) (h1 : qc_P T S o w1 w2 p k → post 1) (h0 : ¬ qc_P T S o w1 w2 p k → post 0) : wpX_partsFit post (fc, fk, fs, aS, aT, aP, aU, aR, aW, aB, aA, aF, aE) (nI (p * 9 + k)) (nI o) w1 w2 := by
  have hS := hV.1 p hp
  have h7 := hV.2.2.1 p hp k hk
  have har := qp_ar_le o
  unfold wpX_partsFit
  refine qx_arity (by omega) ?_
  refine pk_le (qp_ar o) 0 (fun h => qx_pfit25 hV hA hp hw hk ho (fun z => by omega) h1 h0) (fun h => ?_)
  rw [nI_1, qb_test (by omega)]
  refine br_c (fun z => h0 (fun y => ?_)) (fun z => qx_pfit25 hV hA hp hw hk ho (fun _ => ts_nf z) h1 h0)
  have := y.1 h
  rw [show p * 9 + (k + 1) = p * 9 + k + 1 by omega, z] at this
  exact absurd this (by decide)
theorem qx_comb37 {p o N : Nat} {w1 w2 : Int64} {post : Int64 → Prop} {J : Int64 → Int32 → Prop} (hV : qg_V T S) (hB : qg_B T S fc aS aT aU) (hA : qm_A T S aP) (ho : o ≤ 6) (hp : p < 4) (hN : N ≤ S p) (hw : 0 < N → qp_op (T p) (S p) = 0) (hJ : ∀ w, qc_I T S o w1 w2 p N w → J w (nI (p + 1))) :
    ∀ d k, k + d = N → ∀ w, qc_I T S o w1 w2 p k w → ∀ n, d < n → wX_combine_37 post J (nI o) w1 w2 (nI p) (nI N) fc fk fs aS aT aP aU aR aW aB aA aF aE n w (nI k) := by
  have hS := hV.1 p hp
  intro d
  induction d with
  | zero =>
    intro k hk w hI n hn
    obtain ⟨m, rfl⟩ : ∃ m, n = m + 1 := ⟨n - 1, by omega⟩
    have e : k = N := by omega
    subst e
    exact br_t (nI_le (Nat.le_refl _) (by omega)) (nm_r (nI_1 p) (hJ w hI))
  | succ d ih =>
    intro k hk w hI n hn
    obtain ⟨m, rfl⟩ : ∃ m, n = m + 1 := ⟨n - 1, by omega⟩
    have hwp := hw (by omega)
    have h7 := hV.2.2.1 p hp k (by omega)
    refine br_f (nI_ge (by omega) (by omega)) (nm_r (qa_9 p k) (And.intro (vp_in_nI (by omega) (by decide)) ?_))
    rw [nI_clamp (by omega), hB.2.2.1 p hp k (by omega)]
    have hy : qc_C T S o w1 w2 p k → wX_combine_90 post J (wX_combine_37 post J (nI o) w1 w2 (nI p) (nI N) fc fk fs aS aT aP aU aR aW aB aA aF aE m) (nI o) w1 w2 w (nI p) (nI N) (nI k) (nI (p * 9 + k)) fc fk fs aS aT aP aU aR aW aB aA aF aE := by
      intro hc
      exact nm_e (nm_r (nI_1 k) (ih (k + 1) (by omega) _ (qc_I_y hp (by omega) hI hc) m (by omega)))
    have hno : ¬ qc_C T S o w1 w2 p k → wX_combine_37 post J (nI o) w1 w2 (nI p) (nI N) fc fk fs aS aT aP aU aR aW aB aA aF aE m w (nI (k + 1)) := by
      intro hc
      exact ih (k + 1) (by omega) _ (qc_I_n (by omega) hI hc) m (by omega)
    refine pk_eq (T p k) 7 (fun z => hy ⟨hwp, by omega, Or.inl z⟩) (fun z => And.intro (vp_in_nI (by omega) (by decide)) ?_)
    refine pk_eq (T p k) o (fun y => ?_) (fun y => nm_r (nI_1 k) (hno (fun c => ?_)))
    · refine qx_pfit hV hA hp hwp (by omega) y (fun c => br_f (by decide) (hy ⟨hwp, by omega, Or.inr ⟨y, c⟩⟩)) (fun c => br_t rfl (nm_r (nI_1 k) (hno (fun c' => ?_))))
      rcases c'.2.2 with x | x
      · exact z x
      · exact c x.2
    · rcases c.2.2 with x | x
      · exact z x
      · exact y x.1
theorem qx_comb6 {o : Nat} {w1 w2 : Int64} {post : Int64 → Prop} (hV : qg_V T S) (hB : qg_B T S fc aS aT aU) (hA : qm_A T S aP) (ho : o ≤ 6) (hpost : ∀ w, qc_CB T S o w1 w2 w → post w) :
    ∀ d p, p + d = 4 → ∀ w, qc_I T S o w1 w2 p 0 w → ∀ n, d < n → wX_combine_6 post (nI o) w1 w2 fc fk fs aS aT aP aU aR aW aB aA aF aE n w (nI p) := by
  intro d
  induction d with
  | zero =>
    intro p hp w hI n hn
    obtain ⟨m, rfl⟩ : ∃ m, n = m + 1 := ⟨n - 1, by omega⟩
    have e : p = 4 := by omega
    subst e
    exact br_t (nI_le (b := 4) (Nat.le_refl _) (by decide)) (hpost w (qc_I_4 hI))
  | succ d ih =>
    intro p hp w hI n hn
    obtain ⟨m, rfl⟩ : ∃ m, n = m + 1 := ⟨n - 1, by omega⟩
    have hS := hV.1 p (by omega)
    refine br_f (nI_ge (b := 4) (by omega) (by decide)) ?_
    refine qx_complete hV hB (by omega) (fun hw => br_f (by decide) (And.intro (vp_in_nI (by omega) (by decide)) ?_)) (fun hw => br_t rfl ?_)
    · refine nm_r (qx_sz hB (by omega)) (Exists.intro (S p + 1) ?_)
      refine qx_comb37 (N := S p) hV hB hA ho (by omega) (Nat.le_refl _) (fun _ => hw) (fun w' hI' => ?_) (S p) 0 (by omega) w hI _ (by omega)
      exact ih (p + 1) (by omega) w' (qc_I_e hI' (by omega) (fun j hj c => by have := c.2.1; omega)) m (by omega)
    · refine Exists.intro 1 ?_
      refine qx_comb37 (N := 0) hV hB hA ho (by omega) (Nat.zero_le _) (fun z => absurd z (by decide)) (fun w' hI' => ?_) 0 0 rfl w hI _ (by decide)
      exact ih (p + 1) (by omega) w' (qc_I_e hI' (by omega) (fun j hj c => hw c.1)) m (by omega)
theorem qx_combine {o : Nat} {w1 w2 : Int64} {post : Int64 → Prop} (hV : qg_V T S) (hB : qg_B T S fc aS aT aU) (hA : qm_A T S aP) (ho : o ≤ 6) (hpost : ∀ w, qc_CB T S o w1 w2 w → post w) : wpX_combine post (fc, fk, fs, aS, aT, aP, aU, aR, aW, aB, aA, aF, aE) (nI o) w1 w2 :=
  Exists.intro 5 (qx_comb6 hV hB hA ho hpost 4 0 rfl 0 qc_I_0 5 (by decide))
theorem qx_stateOf2 {c : Nat} {w : Int64} {post : Int32 → SX → Prop} (hc : c ≤ 25) (hfs : fs = nI c) (h1 : ∀ i, i < c → aW i = w → post (nI i) (fc, fk, fs, aS, aT, aP, aU, aR, aW, aB, aA, aF, aE)) (h0 : post (nI c) (fc, fk, (nI (c + 1)), aS, aT, aP, aU, aR, (vp_updL aW c w), aB, aA, aF, aE)) :
    ∀ d i, i + d = c → ∀ n, d < n → wX_stateOf_2 post w fc fk fs aS aT aP aU aR aW aB aA aF aE n (nI i) := by
  subst hfs
  intro d
  induction d with
  | zero =>
    intro i hi n hn
    obtain ⟨m, rfl⟩ : ∃ m, n = m + 1 := ⟨n - 1, by omega⟩
    have e : i = c := by omega
    subst e
    refine br_t (nI_le (Nat.le_refl _) (by omega)) (And.intro (vp_in_nI (by omega) (by decide)) ?_)
    refine nm_r (e' := vp_updL aW i w) (by rw [nI_clamp (by omega)]) (nm_r (nI_1 i) ?_)
    rw [nI_pred]
    exact h0
  | succ d ih =>
    intro i hi n hn
    obtain ⟨m, rfl⟩ : ∃ m, n = m + 1 := ⟨n - 1, by omega⟩
    refine br_f (nI_ge (by omega) (by omega)) (And.intro (vp_in_nI (by omega) (by decide)) ?_)
    rw [nI_clamp (by omega)]
    exact br_c (fun z => h1 i (by omega) z) (fun _ => nm_r (nI_1 i) (ih (i + 1) (by omega) m (by omega)))
theorem qx_stateOf {c : Nat} {w : Int64} {post : Int32 → SX → Prop} (hc : c ≤ 25) (hfs : fs = nI c) (h1 : ∀ i, i < c → aW i = w → post (nI i) (fc, fk, fs, aS, aT, aP, aU, aR, aW, aB, aA, aF, aE)) (h0 : post (nI c) (fc, fk, (nI (c + 1)), aS, aT, aP, aU, aR, (vp_updL aW c w), aB, aA, aF, aE)) : wpX_stateOf post (fc, fk, fs, aS, aT, aP, aU, aR, aW, aB, aA, aF, aE) w :=
  Exists.intro (c + 1) (qx_stateOf2 hc hfs h1 h0 c 0 (by omega) _ (by omega))
theorem qc_TI_up {c : Nat} {w : Int64} (h : qc_TI T S c aB aW) : qc_TI T S (c + 1) aB (vp_updL aW c w) := by
  intro j hj
  rcases h j hj with z | ⟨o, f, g, i, h1, h2, h3, h4, h5, h6, h7⟩
  · exact Or.inl z
  · refine Or.inr ⟨o, f, g, i, h1, h2, fun z => by have := h3 z; omega, fun z => by have := h4 z; omega, by omega, h6, ?_⟩
    rw [pk_uLn (k := c) (j := i) (by omega)]
    refine qc_CB_c (fun z => ?_) (fun z => ?_) h7
    · rw [pk_uLn (by have := h3 z; omega)]
    · rw [pk_uLn (by have := h4 z; omega)]
theorem qc_TI_put {c o f g i : Nat} (h : qc_TI T S c aB aW) (h2 : qc_nm o f g) (h3 : 1 ≤ qp_ar o → f < c) (h4 : qp_ar o = 2 → g < c) (h5 : i < c) (h7 : qc_CB T S o (aW f) (aW g) (aW i)) : qc_TI T S c (upd aB (qc_pl o f g) (nI i)) aW := by
  intro j hj
  by_cases z : j = qc_pl o f g
  · subst z
    exact Or.inr ⟨o, f, g, i, rfl, h2, h3, h4, h5, pk_us, h7⟩
  · rw [pk_un z]; exact h j hj
theorem qx_look103 {c o f g : Nat} {post : Int32 → SX → Prop} (hV : qg_V T S) (hB : qg_B T S fc aS aT aU) (hA : qm_A T S aP) (hc : c ≤ 25) (hfs : fs = nI c) (hI : qc_TI T S c aB aW) (hn : qc_nm o f g) (hf : 1 ≤ qp_ar o → f < c) (hg : qp_ar o = 2 → g < c)
    (hpost : ∀ fs' aW' aB' c' i, fs' = nI c' → c ≤ c' → c' ≤ c + 1 → i < c' → (∀ k, k < c → aW' k = aW k) → qc_TI T S c' aB' aW' → qc_CB T S o (aW f) (aW g) (aW' i) → post (nI i) (fc, fk, fs', aS, aT, aP, aU, aR, aW', aB', aA, aF, aE)) : wX_lookUp_103 post (nI o) (nI f) (nI g) (nI (qc_pl o f g)) fc fk fs aS aT aP aU aR aW aB aA aF aE := by
  have hpl := qc_pl_lt hn
  have hcl : (nI (qc_pl o f g)).toNatClampNeg = qc_pl o f g := nI_clamp (by omega)
  have hv : vp_in (nI (qc_pl o f g)) 1408 := vp_in_nI hpl (by decide)
  obtain ⟨n1, n2, n3, n4, n5⟩ := hn
  have hn : qc_nm o f g := ⟨n1, n2, n3, n4, n5⟩
  unfold wX_lookUp_103
  rw [hcl]
  refine And.intro hv ?_
  rcases hI (qc_pl o f g) hpl with z | ⟨o', f', g', i, h1, h2, h3, h4, h5, h6, h7⟩
  · refine br_f (by rw [z]; decide) (And.intro (vp_in_nI n2 (by decide)) (And.intro (vp_in_nI n3 (by decide)) ?_))
    rw [nI_clamp (by omega), nI_clamp (by omega)]
    refine qx_combine hV hB hA (by omega) (fun w hw => ?_)
    refine qx_stateOf hc hfs (fun i hi he => ?_) ?_
    · refine And.intro hv (nm_r (e' := upd aB (qc_pl o f g) (nI i)) (by rw [qa_bb (by omega)]) (And.intro hv ?_))
      rw [pk_us]
      refine hpost fs aW _ c i hfs (Nat.le_refl _) (by omega) hi (fun _ _ => rfl) (qc_TI_put hI hn hf hg hi ?_) ?_
      · rw [he]; exact hw
      · rw [he]; exact hw
    · refine And.intro hv (nm_r (e' := upd aB (qc_pl o f g) (nI c)) (by rw [qa_bb (by omega)]) (And.intro hv ?_))
      rw [pk_us]
      refine hpost _ _ _ (c + 1) c rfl (by omega) (Nat.le_refl _) (by omega) (fun k hk => pk_uLn (by omega)) (qc_TI_put (qc_TI_up hI) hn (fun y => by have := hf y; omega) (fun y => by have := hg y; omega) (by omega) ?_) ?_
      · rw [pk_uLs (k := c)]
        refine qc_CB_c (fun y => ?_) (fun y => ?_) hw
        · rw [pk_uLn (by have := hf y; omega)]
        · rw [pk_uLn (by have := hg y; omega)]
      · rw [pk_uLs]; exact hw
  · obtain ⟨e1, e2, e3⟩ := qc_pl_inj hn h2 h1.symm
    subst e1 e2 e3
    refine br_t (by rw [h6]; exact nI_pos' (by omega)) (And.intro hv ?_)
    rw [h6]
    exact hpost fs aW aB c i hfs (Nat.le_refl _) (by omega) h5 (fun _ _ => rfl) hI h7
end QK
end
section
section QL
variable {T : Nat → Nat → Nat} {S : Nat → Nat} {fc fk fs : Int32} {aS aT aP aU aR : Nat → Int32} {aW : Nat → Int64} {aB aA aF aE : Nat → Int32}
/-- the parts of the subject -/
def ql_R (T : Nat → Nat → Nat) (S : Nat → Nat) (j : Nat) (aR : Nat → Int32) : Prop := ∀ k, j ≤ k → k < S 4 → aR k = nI (qp_bh (T 4) (S 4) k - k)
theorem qx_second {n j : Nat} {post : Int32 → Prop} (hV : qg_V T S) (hw : qp_op (T 4) (S 4) = 0) (hR : ql_R T S j aR) (hj : j ≤ n + 1) (hn : n + 1 < S 4) (hpost : post (nI (qp_bh (T 4) (S 4) (n + 1)))) : wpX_secondPart post (fc, fk, fs, aS, aT, aP, aU, aR, aW, aB, aA, aF, aE) (nI n) := by
  have hS := hV.2.1
  have hg := qp_bh_gt (qg_VV hV (l := 4) (by decide)) hw hn
  show vp_in (nI n + 1) 25 ∧ post (nI n + 1 + aR (nI n + 1).toNatClampNeg)
  rw [nI_1, nI_clamp (by omega), hR (n + 1) hj hn, nI_add, show n + 1 + (qp_bh (T 4) (S 4) (n + 1) - (n + 1)) = qp_bh (T 4) (S 4) (n + 1) by omega]
  exact And.intro (vp_in_nI (by omega) (by decide)) hpost
theorem qx_look49 {c o f g : Nat} {post : Int32 → SX → Prop} (hV : qg_V T S) (hB : qg_B T S fc aS aT aU) (hA : qm_A T S aP) (hc : c ≤ 25) (hfs : fs = nI c) (hI : qc_TI T S c aB aW) (hn : qc_nm o f g) (hf : 1 ≤ qp_ar o → f < c) (hg : qp_ar o = 2 → g < c)
    (hpost : ∀ fs' aW' aB' c' i, fs' = nI c' → c ≤ c' → c' ≤ c + 1 → i < c' → (∀ k, k < c → aW' k = aW k) → qc_TI T S c' aB' aW' → qc_CB T S o (aW f) (aW g) (aW' i) → post (nI i) (fc, fk, fs', aS, aT, aP, aU, aR, aW', aB', aA, aF, aE)) : wX_lookUp_49 post (nI o) (nI (qp_ar o)) (nI f) (nI g) fc fk fs aS aT aP aU aR aW aB aA aF aE := by
  have h103 := qx_look103 (fk := fk) (aR := aR) (aA := aA) (aF := aF) (aE := aE) (post := post) hV hB hA hc hfs hI hn hf hg hpost
  have har := qp_ar_le o
  have n1 := hn.1
  unfold wX_lookUp_49
  refine nm_e ?_
  refine pk_eq (qp_ar o) 2 (fun h => ?_) (fun h => pk_eq (qp_ar o) 1 (fun h1 => ?_) (fun h1 => ?_))
  · have e : qc_pl o f g = (o * 26 + f) * 26 + g := if_pos (qp_ar_2.mp h)
    rw [e] at h103
    refine nm_r (e' := nI ((o * 26 + f) * 26 + g)) ?_ h103
    rw [show (26 : Int32) = nI 26 from rfl, pk_mul, nI_add, pk_mul, nI_add]
  · have h2 := qp_ar_1.mp h1
    have e : qc_pl o f g = 1352 + (o - 2) * 26 + f := by unfold qc_pl; rw [if_neg h2.1, if_pos h2.2]
    rw [e] at h103
    refine nm_r (e' := nI (1352 + (o - 2) * 26 + f)) ?_ h103
    rw [show (26 : Int32) = nI 26 from rfl, show (2 : Int32) = nI 2 from rfl, show (1352 : Int32) = nI 1352 from rfl, pk_sub (by omega), pk_mul, nI_add, nI_add]
  · have h2 : ¬ o < 4 := qp_ar_0.mp (by omega)
    have e : qc_pl o f g = 1400 + o := by unfold qc_pl; rw [if_neg (by omega), if_neg h2]
    rw [e] at h103
    have e2 : (1404 : Int32) + nI o - 4 = nI (1400 + o) := by
      rw [show (1404 : Int32) = nI 1404 from rfl, show (4 : Int32) = nI 4 from rfl, nI_add, pk_sub (by omega), show 1404 + o - 4 = 1400 + o by omega]
    rw [e2]
    exact h103
/-- a node's state: its number is known and its set is right -/
def ql_A (T : Nat → Nat → Nat) (S : Nat → Nat) (c j : Nat) (aA : Nat → Int32) (aW : Nat → Int64) : Prop := ∀ m, j ≤ m → m < S 4 → ∃ i, i < c ∧ aA m = nI i ∧ qc_N T S m (aW i)
theorem qx_lookUp {c n : Nat} {post : Int32 → SX → Prop} (hV : qg_V T S) (hB : qg_B T S fc aS aT aU) (hw : qp_op (T 4) (S 4) = 0) (hA : qm_A T S aP) (hR : ql_R T S 0 aR) (hc : c ≤ 25) (hfs : fs = nI c) (hI : qc_TI T S c aB aW) (hn : n < S 4) (hA2 : ql_A T S c (n + 1) aA aW)
    (hpost : ∀ fs' aW' aB' c' i, fs' = nI c' → c ≤ c' → c' ≤ c + 1 → i < c' → (∀ k, k < c → aW' k = aW k) → qc_TI T S c' aB' aW' → qc_N T S n (aW' i) → post (nI i) (fc, fk, fs', aS, aT, aP, aU, aR, aW', aB', aA, aF, aE)) : wpX_lookUp post (fc, fk, fs, aS, aT, aP, aU, aR, aW, aB, aA, aF, aE) (nI n) := by
  have hS := hV.2.1
  have hV4 := qg_VV hV (l := 4) (by decide)
  have h6 := hV.2.2.2.1 n hn
  have har := qp_ar_le (T 4 n)
  unfold wpX_lookUp
  refine And.intro (vp_in_nI (by omega) (by decide)) (nm_r (qx_sub hV hB hn) ?_)
  refine qx_arity (by omega) ?_
  refine pk_le (qp_ar (T 4 n)) 0 (fun h => ?_) (fun h => ?_)
  · have h4 := qp_ar_0.mp (show qp_ar (T 4 n) = 0 by omega)
    unfold wX_lookUp_28
    refine br_t (nI_le (b := 1) (by omega) (by decide)) ?_
    refine qx_look49 (f := 0) (g := 0) hV hB hA hc hfs hI ⟨by omega, by decide, by decide, fun _ => rfl, fun _ => rfl⟩ (fun z => by omega) (fun z => by omega) ?_
    intro fs' aW' aB' c' i p1 p2 p3 p4 p5 p6 p7
    exact hpost fs' aW' aB' c' i p1 p2 p3 p4 p5 p6 (qc_N_of hV hw hn (fun z => by omega) (fun z => by omega) p7)
  · have hn1 := qp_nx hV4 hw hn (by omega)
    have h4 : T 4 n < 4 := by
      rcases Nat.lt_or_ge (T 4 n) 4 with z | z
      · exact z
      · have := qp_ar0 (x := T 4 n) (by omega); omega
    obtain ⟨f, f1, f2, f3⟩ := hA2 (n + 1) (Nat.le_refl _) hn1
    refine And.intro (by rw [nI_1]; exact vp_in_nI (by omega) (by decide)) ?_
    rw [nI_1, nI_clamp (by omega), f2]
    unfold wX_lookUp_28
    refine pk_le (qp_ar (T 4 n)) 1 (fun h1 => ?_) (fun h1 => ?_)
    · have h2 := qp_ar_1.mp (show qp_ar (T 4 n) = 1 by omega)
      refine qx_look49 (f := f) (g := 0) hV hB hA hc hfs hI ⟨by omega, by omega, by decide, fun z => by omega, fun _ => rfl⟩ (fun z => f1) (fun z => by omega) ?_
      intro fs' aW' aB' c' i p1 p2 p3 p4 p5 p6 p7
      exact hpost fs' aW' aB' c' i p1 p2 p3 p4 p5 p6 (qc_N_of hV hw hn (fun _ => f3) (fun z => by omega) p7)
    · have h2 := qp_ar_2.mp (show qp_ar (T 4 n) = 2 by omega)
      obtain ⟨hn2, _⟩ := qp_bh_2 hV4 hw hn (by omega)
      have hg := qp_bh_gt hV4 hw hn1
      obtain ⟨g, g1, g2, g3⟩ := hA2 (qp_bh (T 4) (S 4) (n + 1)) (by omega) hn2
      refine qx_second hV hw hR (Nat.zero_le _) hn1 (And.intro (vp_in_nI (by omega) (by decide)) ?_)
      rw [nI_clamp (by omega), g2]
      refine qx_look49 (f := f) (g := g) hV hB hA hc hfs hI ⟨by omega, by omega, by omega, fun z => by omega, fun z => by omega⟩ (fun z => f1) (fun z => g1) ?_
      intro fs' aW' aB' c' i p1 p2 p3 p4 p5 p6 p7
      exact hpost fs' aW' aB' c' i p1 p2 p3 p4 p5 p6 (qc_N_of hV hw hn (fun _ => f3) (fun _ => g3) p7)
theorem qx_whp4 {w : Int64} {post : Int32 → Prop} (hpost : post (qz_F (fun p => qb_b w (p * 9)) 4)) :
    ∀ d p, p + d = 4 → ∀ n, d < n → wX_wholePatterns_4 post w n (qz_F (fun p => qb_b w (p * 9)) p) (nI p) := by
  intro d
  induction d with
  | zero =>
    intro p hp n hn
    obtain ⟨m, rfl⟩ : ∃ m, n = m + 1 := ⟨n - 1, by omega⟩
    have e : p = 4 := by omega
    subst e
    exact br_t (nI_le (b := 4) (Nat.le_refl _) (by decide)) hpost
  | succ d ih =>
    intro p hp n hn
    obtain ⟨m, rfl⟩ : ∃ m, n = m + 1 := ⟨n - 1, by omega⟩
    refine br_f (nI_ge (b := 4) (by omega) (by decide)) ?_
    refine nm_r (e' := qz_F (fun p => qb_b w (p * 9)) (p + 1)) ?_ (nm_r (nI_1 p) (ih (p + 1) (by omega) m (by omega)))
    rw [show (9 : Int32) = nI 9 from rfl, pk_mul, qb_one (by omega)]
    cases e : qb_b w (p * 9) with
    | true => exact qz_F_t (b := fun p => qb_b w (p * 9)) e
    | false =>
      refine Eq.trans ?_ (qz_F_f (b := fun p => qb_b w (p * 9)) e)
      have h0 : ((if false = true then (1 : Int64) else 0).toInt32 <<< (nI p &&& 31)) = 0 := by
        match p, (show p < 4 by omega) with
        | 0, _ => decide
        | 1, _ => decide
        | 2, _ => decide
        | 3, _ => decide
      rw [h0, Int32.or_zero]
theorem qx_whp {w : Int64} {post : Int32 → Prop} (hpost : post (qz_F (fun p => qb_b w (p * 9)) 4)) : wpX_wholePatterns post w :=
  Exists.intro 5 (qx_whp4 hpost 4 0 rfl 5 (by decide))
end QL
end
section
section QE
variable {T : Nat → Nat → Nat} {S : Nat → Nat} {fc fk fs : Int32} {aS aT aP aU aR : Nat → Int32} {aW : Nat → Int64} {aB aA aF aE : Nat → Int32}
/-! equal parts -/
def qe_I (T : Nat → Nat → Nat) (S : Nat → Nat) (j : Nat) (aE : Nat → Int32) : Prop :=
  (∀ a, j ≤ a → a < S 4 → ∃ r, aE a = nI r ∧ j ≤ r ∧ r < 25) ∧ (∀ a b, j ≤ a → a < S 4 → j ≤ b → b < S 4 → (aE a = aE b ↔ qp_Q (T 4) (S 4) a b))
theorem qx_same50 {n m : Nat} {post : Int32 → Prop} (hV : qg_V T S) (hw : qp_op (T 4) (S 4) = 0) (hR : ql_R T S 0 aR) (hn : n < S 4) (hm : m < S 4) (hnm : n < m) (hE : ∀ a b, n < a → a < S 4 → n < b → b < S 4 → (aE a = aE b ↔ qp_Q (T 4) (S 4) a b)) (he : T 4 n = T 4 m) (hf : 1 ≤ qp_ar (T 4 n) → qp_Q (T 4) (S 4) (n + 1) (m + 1)) (h1 : qp_Q (T 4) (S 4) n m → post 1) (h0 : ¬ qp_Q (T 4) (S 4) n m → post 0) : wX_samePart_50 post (nI n) (nI m) (nI (qp_ar (T 4 n))) fc fk fs aS aT aP aU aR aW aB aA aF aE := by
  have hS := hV.2.1
  have hV4 := qg_VV hV (l := 4) (by decide)
  have har := qp_ar_le (T 4 n)
  unfold wX_samePart_50
  refine pk_lt (qp_ar (T 4 n)) 2 (fun h => h1 ?_) (fun h => ?_)
  · rcases Nat.lt_or_ge (qp_ar (T 4 n)) 1 with z | z
    · exact qp_Q_0 hV4 hw hn hm he (by omega)
    · exact (qp_Q_1 hV4 hw hn hm he (by omega)).mpr (hf z)
  · have hn1 := qp_nx hV4 hw hn (by omega)
    have hm1 := qp_nx hV4 hw hm (by rw [← he]; omega)
    obtain ⟨hn2, _⟩ := qp_bh_2 hV4 hw hn (by omega)
    obtain ⟨hm2, _⟩ := qp_bh_2 hV4 hw hm (by rw [← he]; omega)
    have gn := qp_bh_gt hV4 hw hn1
    have gm := qp_bh_gt hV4 hw hm1
    refine qx_second hV hw hR (Nat.zero_le _) hn1 (And.intro (vp_in_nI (by omega) (by decide)) ?_)
    refine qx_second hV hw hR (Nat.zero_le _) hm1 (And.intro (vp_in_nI (by omega) (by decide)) ?_)
    rw [nI_clamp (by omega), nI_clamp (by omega), hE _ _ (by omega) hn2 (by omega) hm2]
    have q2 := qp_Q_2 hV4 hw hn hm he (by omega)
    exact br_c (fun z => h1 (q2.mpr ⟨hf (by omega), z⟩)) (fun z => h0 (fun y => z (q2.mp y).2))
theorem qx_same {n m : Nat} {post : Int32 → Prop} (hV : qg_V T S) (hB : qg_B T S fc aS aT aU) (hw : qp_op (T 4) (S 4) = 0) (hR : ql_R T S 0 aR) (hn : n < S 4) (hm : m < S 4) (hnm : n < m) (hE : ∀ a b, n < a → a < S 4 → n < b → b < S 4 → (aE a = aE b ↔ qp_Q (T 4) (S 4) a b)) (h1 : qp_Q (T 4) (S 4) n m → post 1) (h0 : ¬ qp_Q (T 4) (S 4) n m → post 0) : wpX_samePart post (fc, fk, fs, aS, aT, aP, aU, aR, aW, aB, aA, aF, aE) (nI n) (nI m) := by
  have hS := hV.2.1
  have hV4 := qg_VV hV (l := 4) (by decide)
  have har := qp_ar_le (T 4 n)
  have t1 := hV.2.2.2.1 n hn
  have t2 := hV.2.2.2.1 m hm
  show vp_in (nI n) 25 ∧ wpX_arity _ (aU (nI n).toNatClampNeg)
  refine And.intro (vp_in_nI (by omega) (by decide)) ?_
  rw [qx_sub hV hB hn]
  refine qx_arity (by omega) (And.intro (vp_in_nI (by omega) (by decide)) (And.intro (vp_in_nI (by omega) (by decide)) ?_))
  refine pk_eq (T 4 n) (T 4 m) (fun he => ?_) (fun he => h0 (fun q => he (qp_Q_hd hV4 hw hn q))) rfl (qx_sub hV hB hm)
  refine pk_le (qp_ar (T 4 n)) 0 (fun h => qx_same50 hV hw hR hn hm hnm hE he (fun z => by omega) h1 h0) (fun h => ?_)
  have hn1 := qp_nx hV4 hw hn (by omega)
  have hm1 := qp_nx hV4 hw hm (by rw [← he]; omega)
  rw [nI_1, nI_1]
  refine And.intro (vp_in_nI (by omega) (by decide)) (And.intro (vp_in_nI (by omega) (by decide)) ?_)
  rw [nI_clamp (by omega), nI_clamp (by omega), hE _ _ (by omega) hn1 (by omega) hm1]
  refine br_c (fun z => qx_same50 hV hw hR hn hm hnm hE he (fun _ => z) h1 h0) (fun z => h0 (fun q => z ?_))
  by_cases y : qp_ar (T 4 n) = 2
  · exact ((qp_Q_2 hV4 hw hn hm he y).mp q).1
  · exact (qp_Q_1 hV4 hw hn hm he (by omega)).mp q
/-- the inner loop: what stands at node n while the nodes above m are looked at -/
def qe_J (T : Nat → Nat → Nat) (S : Nat → Nat) (n m : Nat) (a0 aE : Nat → Int32) : Prop :=
  (∀ a, n < a → aE a = a0 a) ∧ ((aE n = nI n ∧ ∀ b, m < b → b < S 4 → ¬ qp_Q (T 4) (S 4) n b) ∨ ∃ b, m < b ∧ b < S 4 ∧ n < b ∧ qp_Q (T 4) (S 4) n b ∧ aE n = a0 b)
theorem qe_J_I {n : Nat} {a0 : Nat → Int32} (hn : n < 25) (h0 : qe_I T S (n + 1) a0) (h : qe_J T S n n a0 aE) : qe_I T S n aE := by
  obtain ⟨hk, hc⟩ := h
  obtain ⟨i1, i2⟩ := h0
  have key : ∀ b, n < b → b < S 4 → (aE n = aE b ↔ qp_Q (T 4) (S 4) n b) := by
    intro b hb hb4
    rw [hk b hb]
    rcases hc with ⟨c1, c2⟩ | ⟨b', d1, d2, d3, d4, d5⟩
    · obtain ⟨r, r1, r2, r3⟩ := i1 b hb hb4
      rw [c1, r1, nI_eq (by omega) (by omega)]
      exact ⟨fun z => by omega, fun z => absurd z (c2 b hb hb4)⟩
    · rw [d5, i2 b' b d3 d2 hb hb4]
      exact ⟨fun z => qp_Q_t d4 z, fun z => qp_Q_t (qp_Q_s d4) z⟩
  refine ⟨?_, ?_⟩
  · intro a ha ha4
    by_cases z : a = n
    · subst z
      rcases hc with ⟨c1, c2⟩ | ⟨b', d1, d2, d3, d4, d5⟩
      · exact ⟨a, c1, Nat.le_refl _, hn⟩
      · obtain ⟨r, r1, r2, r3⟩ := i1 b' d3 d2
        exact ⟨r, d5.trans r1, by omega, r3⟩
    · obtain ⟨r, r1, r2, r3⟩ := i1 a (by omega) ha4
      exact ⟨r, (hk a (by omega)).trans r1, by omega, r3⟩
  · intro a b ha ha4 hb hb4
    by_cases z : a = n
    · subst z
      by_cases y : b = a
      · subst y; exact ⟨fun _ => qp_Q_r _ _ _, fun _ => rfl⟩
      · exact key b (by omega) hb4
    · by_cases y : b = n
      · subst y
        have := key a (by omega) ha4
        exact ⟨fun w => qp_Q_s (this.mp w.symm), fun w => (this.mpr (qp_Q_s w)).symm⟩
      · rw [hk a (by omega), hk b (by omega)]
        exact i2 a b (by omega) ha4 (by omega) hb4
theorem qe_J_byte {n m : Nat} {a0 : Nat → Int32} (hn : n < 25) (h0 : qe_I T S (n + 1) a0) (h : qe_J T S n m a0 aE) : vp_nar .byte (aE n) = aE n := by
  rcases h.2 with ⟨c1, c2⟩ | ⟨b', d1, d2, d3, d4, d5⟩
  · rw [c1]; exact qa_byte (by omega)
  · obtain ⟨r, r1, r2, r3⟩ := h0.1 b' d3 d2
    rw [d5, r1]; exact qa_byte (by omega)
theorem qx_learn218 {n : Nat} {a0 : Nat → Int32} {post : Int32 → SX → Prop} {J : Int32 → (Nat → Int32) → (Nat → Int32) → (Nat → Int32) → (Nat → Int32) → (Nat → Int32) → (Nat → Int64) → (Nat → Int32) → (Nat → Int32) → (Nat → Int32) → (Nat → Int32) → Prop} (hV : qg_V T S) (hB : qg_B T S fc aS aT aU) (hw : qp_op (T 4) (S 4) = 0) (hR : ql_R T S 0 aR) (hn : n < S 4) (h0 : qe_I T S (n + 1) a0) (hJ : ∀ aE', qe_J T S n n a0 aE' → J (nI n + (-1)) aS aT aP aU aR aW aB aA aF aE') :
    ∀ d m, n + d = m → m < S 4 → ∀ aE, qe_J T S n m a0 aE → ∀ f, d < f → wX_learn_218 post J (nI n) fc fk fs f (nI m) aS aT aP aU aR aW aB aA aF aE := by
  have hS := hV.2.1
  intro d
  induction d with
  | zero =>
    intro m hm hm4 aE hI f hf
    obtain ⟨e, rfl⟩ : ∃ e, f = e + 1 := ⟨f - 1, by omega⟩
    have e2 : n = m := by omega
    subst e2
    exact br_t (nI_le (Nat.le_refl _) (by omega)) (nm_e (hJ aE hI))
  | succ d ih =>
    intro m hm hm4 aE hI f hf
    obtain ⟨e, rfl⟩ : ∃ e, f = e + 1 := ⟨f - 1, by omega⟩
    obtain ⟨m', rfl⟩ : ∃ m', m = m' + 1 := ⟨m - 1, by omega⟩
    have hv : vp_in (nI n) 25 := vp_in_nI (by omega) (by decide)
    have hcl : (nI n).toNatClampNeg = n := nI_clamp (by omega)
    refine br_f (nI_ge (by omega) (by omega)) ?_
    refine qx_same hV hB hw hR hn hm4 (by omega) ?_ (fun q => br_f (by decide) (And.intro (vp_in_nI (by omega) (by decide)) (And.intro hv ?_))) (fun q => br_t rfl (And.intro hv (And.intro hv ?_)))
    · intro a b ha ha4 hb hb4
      rw [hI.1 a ha, hI.1 b hb]
      exact h0.2 a b (by omega) ha4 (by omega) hb4
    · obtain ⟨r, r1, r2, r3⟩ := h0.1 (m' + 1) (by omega) hm4
      refine nm_r (e' := upd aE n (a0 (m' + 1))) ?_ (nm_r (pk_m1 m') (ih m' (by omega) (by omega) _ ⟨?_, Or.inr ⟨m' + 1, by omega, hm4, by omega, q, pk_us⟩⟩ e (by omega)))
      · rw [hcl, nI_clamp (by omega), hI.1 _ (by omega), r1, qa_byte (by omega)]
      · intro a ha
        rw [pk_un (by omega)]; exact hI.1 a ha
    · refine nm_r (e' := upd aE n (aE n)) ?_ (nm_r (pk_m1 m') (ih m' (by omega) (by omega) _ ⟨?_, ?_⟩ e (by omega)))
      · rw [hcl, qe_J_byte (by omega) h0 hI]
      · intro a ha
        rw [pk_un (by omega)]; exact hI.1 a ha
      · rw [pk_us]
        rcases hI.2 with ⟨c1, c2⟩ | ⟨b', d1, d2, d3, d4, d5⟩
        · refine Or.inl ⟨c1, ?_⟩
          intro b hb hb4
          by_cases z : b = m' + 1
          · rw [z]; exact q
          · exact c2 b (by omega) hb4
        · exact Or.inr ⟨b', by omega, d2, d3, d4, d5⟩
theorem qx_learn199 {post : Int32 → SX → Prop} (hV : qg_V T S) (hB : qg_B T S fc aS aT aU) (hw : qp_op (T 4) (S 4) = 0) (hR : ql_R T S 0 aR) (hpost : ∀ aE', qe_I T S 0 aE' → post 1 (fc, fk, fs, aS, aT, aP, aU, aR, aW, aB, aA, aF, aE')) :
    ∀ j, j ≤ S 4 → ∀ aE, qe_I T S j aE → ∀ f, j < f → wX_learn_199 post fc fk fs f (nI j + (-1)) aS aT aP aU aR aW aB aA aF aE := by
  have hS := hV.2.1
  intro j
  induction j with
  | zero =>
    intro hj aE hI f hf
    obtain ⟨e, rfl⟩ : ∃ e, f = e + 1 := ⟨f - 1, by omega⟩
    exact br_t (by decide) (hpost aE hI)
  | succ j ih =>
    intro hj aE hI f hf
    obtain ⟨e, rfl⟩ : ∃ e, f = e + 1 := ⟨f - 1, by omega⟩
    rw [pk_m1]
    refine br_f (nI_pos (by omega)) (And.intro (vp_in_nI (by omega) (by decide)) ?_)
    refine nm_r (e' := upd aE j (nI j)) ?_ (nm_r (e' := nI (S 4 - 1)) ?_ (Exists.intro 26 ?_))
    · rw [nI_clamp (by omega), qa_bb (by omega)]
    · rw [hB.1, show (1 : Int32) = nI 1 from rfl, pk_sub (by omega)]
    · refine qx_learn218 (a0 := aE) hV hB hw hR (by omega) hI (fun aE' h => ih (by omega) aE' (qe_J_I (by omega) hI h) e (by omega)) (S 4 - 1 - j) (S 4 - 1) (by omega) (by omega) (upd aE j (nI j)) ⟨fun a ha => pk_un (by omega), Or.inl ⟨pk_us, fun b hb hb4 => by omega⟩⟩ 26 (by omega)
/-! sets and states of the nodes -/
theorem ql_A_up {c c' j : Nat} {aW' : Nat → Int64} (h : ql_A T S c j aA aW) (hc : c ≤ c') (hk : ∀ k, k < c → aW' k = aW k) : ql_A T S c' j aA aW' := by
  intro m h1 h2
  obtain ⟨i, i1, i2, i3⟩ := h m h1 h2
  exact ⟨i, by omega, i2, by rw [hk i i1]; exact i3⟩
def ql_F (T : Nat → Nat → Nat) (S : Nat → Nat) (j : Nat) (aF : Nat → Int32) : Prop := ∀ k, j ≤ k → k < S 4 → aF k = qg_FF T S k
theorem qx_learn149 {post : Int32 → SX → Prop} (hV : qg_V T S) (hB : qg_B T S fc aS aT aU) (hw : qp_op (T 4) (S 4) = 0) (hA : qm_A T S aP) (hR : ql_R T S 0 aR) (hpost : ∀ fs' aW' aB' aA' aF' aE', ql_F T S 0 aF' → qe_I T S 0 aE' → post 1 (fc, fk, fs', aS, aT, aP, aU, aR, aW', aB', aA', aF', aE')) :
    ∀ j, j ≤ S 4 → ∀ fs aW aB aA aF c, fs = nI c → c + j ≤ S 4 → qc_TI T S c aB aW → ql_A T S c j aA aW → ql_F T S j aF → ∀ f, j < f → wX_learn_149 post f (nI j + (-1)) fc fk fs aS aT aP aU aR aW aB aA aF aE := by
  have hS := hV.2.1
  intro j
  induction j with
  | zero =>
    intro hj fs aW aB aA aF c hfs hc hT hN hF f hf
    obtain ⟨e, rfl⟩ : ∃ e, f = e + 1 := ⟨f - 1, by omega⟩
    have hpos := qp_pos hw
    refine br_t (by decide) (nm_r (e' := nI (S 4) + (-1)) (by rw [hB.1, Int32.sub_eq_add_neg]) (Exists.intro (S 4 + 1) ?_))
    refine qx_learn199 hV hB hw hR (fun aE' h => hpost fs aW aB aA aF aE' hF h) (S 4) (Nat.le_refl _) aE ⟨fun a h1 h2 => by omega, fun a b h1 h2 => by omega⟩ _ (by omega)
  | succ j ih =>
    intro hj fs aW aB aA aF c hfs hc hT hN hF f hf
    obtain ⟨e, rfl⟩ : ∃ e, f = e + 1 := ⟨f - 1, by omega⟩
    have hv : vp_in (nI j) 25 := vp_in_nI (by omega) (by decide)
    have hcl : (nI j).toNatClampNeg = j := nI_clamp (by omega)
    rw [pk_m1]
    refine br_f (nI_pos (by omega)) ?_
    refine qx_lookUp hV hB hw hA hR (by omega) hfs hT (by omega) hN ?_
    intro fs' aW' aB' c' i p1 p2 p3 p4 p5 p6 p7
    refine And.intro hv (nm_r (e' := upd aA j (nI i)) (by rw [hcl, qa_bb (by omega)]) (And.intro hv ?_))
    rw [hcl, pk_us]
    refine And.intro (vp_in_nI (by omega) (by decide)) ?_
    rw [nI_clamp (by omega)]
    refine qx_whp ?_
    rw [qc_N_FF hV hw (by omega) p7]
    obtain ⟨x, x1, x2⟩ := qz_F_n (fun p => qg_fb T S p j)
    have x3 : qg_FF T S j = nI x := x2
    refine And.intro hv (nm_r (e' := upd aF j (qg_FF T S j)) (by rw [x3, qa_bb (by omega)]) (nm_e ?_))
    refine ih (by omega) fs' aW' aB' _ _ c' p1 (by omega) p6 ?_ ?_ e (by omega)
    · intro m h1 h2
      by_cases z : m = j
      · subst z
        exact ⟨i, p4, pk_us, p7⟩
      · obtain ⟨i', i1, i2, i3⟩ := ql_A_up hN p2 p5 m (by omega) h2
        exact ⟨i', i1, by rw [pk_un z]; exact i2, i3⟩
    · intro k h1 h2
      by_cases z : k = j
      · subst z; exact pk_us
      · rw [pk_un z]; exact hF k (by omega) h2
theorem qx_learn122 {post : Int32 → SX → Prop} (hV : qg_V T S) (hB : qg_B T S fc aS aT aU) (hw : qp_op (T 4) (S 4) = 0) (hA : qm_A T S aP) (hR : ql_R T S 0 aR) (hfs : fs = 0) (hpost : ∀ fs' aW' aB' aA' aF' aE', ql_F T S 0 aF' → qe_I T S 0 aE' → post 1 (fc, fk, fs', aS, aT, aP, aU, aR, aW', aB', aA', aF', aE')) :
    ∀ d i, i + d = 1408 → ∀ aB, (∀ j, j < i → aB j = -1) → ∀ f, d < f → wX_learn_122 post fc fk fs f (nI i) aS aT aP aU aR aW aB aA aF aE := by
  have hS := hV.2.1
  intro d
  induction d with
  | zero =>
    intro i hi aB hT f hf
    obtain ⟨e, rfl⟩ : ∃ e, f = e + 1 := ⟨f - 1, by omega⟩
    have ei : i = 1408 := by omega
    subst ei
    refine br_t (nI_le (b := 1408) (Nat.le_refl _) (by decide)) (nm_r (e' := nI (S 4) + (-1)) (by rw [hB.1, Int32.sub_eq_add_neg]) (Exists.intro (S 4 + 1) ?_))
    exact qx_learn149 hV hB hw hA hR hpost (S 4) (Nat.le_refl _) fs aW aB aA aF 0 hfs (by omega) (fun j hj => Or.inl (hT j hj)) (fun m h1 h2 => by omega) (fun m h1 h2 => by omega) _ (by omega)
  | succ d ih =>
    intro i hi aB hT f hf
    obtain ⟨e, rfl⟩ : ∃ e, f = e + 1 := ⟨f - 1, by omega⟩
    refine br_f (nI_ge (b := 1408) (by omega) (by decide)) (And.intro (vp_in_nI (by omega) (by decide)) ?_)
    refine nm_r (e' := upd aB i (-1)) (by rw [nI_clamp (by omega), vp_nar_byte]; rfl) (nm_r (nI_1 i) (ih (i + 1) (by omega) _ ?_ e (by omega)))
    intro j hj
    by_cases z : j = i
    · subst z; exact pk_us
    · rw [pk_un z]; exact hT j (by omega)
theorem ql_upd {j : Nat} {x : Int32} (h : ql_R T S (j + 1) aR) (hx : x = nI (qp_bh (T 4) (S 4) j - j)) : ql_R T S j (upd aR j x) := by
  intro k h1 h2
  by_cases z : k = j
  · subst z; rw [pk_us]; exact hx
  · rw [pk_un z]; exact h k (by omega) h2
theorem qx_learn48 {post : Int32 → SX → Prop} (hV : qg_V T S) (hB : qg_B T S fc aS aT aU) (hw : qp_op (T 4) (S 4) = 0) (hA : qm_A T S aP) (hpost : ∀ fs' aR' aW' aB' aA' aF' aE', ql_R T S 0 aR' → ql_F T S 0 aF' → qe_I T S 0 aE' → post 1 (fc, fk, fs', aS, aT, aP, aU, aR', aW', aB', aA', aF', aE')) :
    ∀ j, j ≤ S 4 → ∀ aR, ql_R T S j aR → ∀ f, j < f → wX_learn_48 post fc fk fs f (nI j + (-1)) aS aT aP aU aR aW aB aA aF aE := by
  have hS := hV.2.1
  have hV4 := qg_VV hV (l := 4) (by decide)
  intro j
  induction j with
  | zero =>
    intro hj aR hR f hf
    obtain ⟨e, rfl⟩ : ∃ e, f = e + 1 := ⟨f - 1, by omega⟩
    refine br_t (by decide) (Exists.intro 1409 ?_)
    exact qx_learn122 hV hB hw hA hR rfl (fun fs' aW' aB' aA' aF' aE' h1 h2 => hpost fs' aR aW' aB' aA' aF' aE' hR h1 h2) 1408 0 rfl aB (fun j hj => absurd hj (Nat.not_lt_zero j)) 1409 (by decide)
  | succ j ih =>
    intro hj aR hR f hf
    obtain ⟨m, rfl⟩ : ∃ m, f = m + 1 := ⟨f - 1, by omega⟩
    rw [pk_m1]
    obtain ⟨hE, hl⟩ := qp_bh_E hV4 hw (k := j) (by omega)
    have hg := hE.1
    have hv : vp_in (nI j) 25 := vp_in_nI (by omega) (by decide)
    refine br_f (nI_pos (by omega)) (And.intro hv ?_)
    rw [qx_sub hV hB (by omega)]
    have t6 := hV.2.2.2.1 j (by omega)
    refine qx_arity (by omega) ?_
    have har := qp_ar_le (T 4 j)
    refine pk_le (qp_ar (T 4 j)) 0 (fun h0 => ?_) (fun h0 => ?_)
    · have e := qp_bh_0 hV4 hw (k := j) (by omega) (by omega)
      unfold wX_learn_78
      refine br_t (nI_le (b := 1) (by omega) (by decide)) (And.intro hv ?_)
      refine nm_r (e' := upd aR j (nI 1)) ?_ (nm_e (ih (by omega) _ (ql_upd hR ?_) m (by omega)))
      · rw [nI_clamp (by omega)]
        exact congrArg _ (qa_bb (n := 1) (by decide))
      · rw [e, show j + 1 - j = 1 by omega]
    · have hj1 := qp_nx hV4 hw (k := j) (by omega) (by omega)
      obtain ⟨hE1, hl1⟩ := qp_bh_E hV4 hw hj1
      have hg1 := hE1.1
      have hz' : aR (nI j + 1).toNatClampNeg = nI (qp_bh (T 4) (S 4) (j + 1) - (j + 1)) := by
        rw [nI_1, nI_clamp (by omega)]; exact hR (j + 1) (Nat.le_refl _) hj1
      refine And.intro (by rw [nI_1]; exact vp_in_nI (by omega) (by decide)) ?_
      unfold wX_learn_78
      rw [hz']
      refine pk_le (qp_ar (T 4 j)) 1 (fun h1 => And.intro hv ?_) (fun h1 => ?_)
      · have e := qp_bh_1 hV4 hw (k := j) (by omega) (by omega)
        refine nm_r (e' := upd aR j (nI (1 + (qp_bh (T 4) (S 4) (j + 1) - (j + 1))))) ?_ (nm_e (ih (by omega) _ (ql_upd hR ?_) m (by omega)))
        · rw [nI_clamp (by omega), qx_1, Int32.add_zero, qa_bb (by omega)]
        · rw [e, show 1 + (qp_bh (T 4) (S 4) (j + 1) - (j + 1)) = qp_bh (T 4) (S 4) (j + 1) - j by omega]
      · obtain ⟨hj2, e⟩ := qp_bh_2 hV4 hw (k := j) (by omega) (by omega)
        obtain ⟨hE2, hl2⟩ := qp_bh_E hV4 hw hj2
        have hg2 := hE2.1
        have hix : nI j + 1 + nI (qp_bh (T 4) (S 4) (j + 1) - (j + 1)) = nI (qp_bh (T 4) (S 4) (j + 1)) := by
          rw [nI_1, nI_add, show j + 1 + (qp_bh (T 4) (S 4) (j + 1) - (j + 1)) = qp_bh (T 4) (S 4) (j + 1) by omega]
        rw [hix]
        refine And.intro (vp_in_nI (by omega) (by decide)) (And.intro hv ?_)
        refine nm_r (e' := upd aR j (nI (qp_bh (T 4) (S 4) j - j))) ?_ (nm_e (ih (by omega) _ (ql_upd hR rfl) m (by omega)))
        rw [nI_clamp (by omega), nI_clamp (by omega), hR _ (by omega) hj2, qx_1, nI_add, qa_bb (by omega), show 1 + (qp_bh (T 4) (S 4) (j + 1) - (j + 1)) + (qp_bh (T 4) (S 4) (qp_bh (T 4) (S 4) (j + 1)) - qp_bh (T 4) (S 4) (j + 1)) = qp_bh (T 4) (S 4) j - j by omega]
theorem qx_learn25 {post : Int32 → SX → Prop} (hV : qg_V T S) (hB : qg_B T S fc aS aT aU) (hw : qp_op (T 4) (S 4) = 0) (hpost : ∀ fs' aP' aR' aW' aB' aA' aF' aE', ql_R T S 0 aR' → ql_F T S 0 aF' → qe_I T S 0 aE' → post 1 (fc, fk, fs', aS, aT, aP', aU, aR', aW', aB', aA', aF', aE')) :
    ∀ d p, p + d = 4 → ∀ aP, (∀ q, q < p → qm_S T S q aP) → ∀ f, d < f → wX_learn_25 post f (nI p) fc fk fs aS aT aP aU aR aW aB aA aF aE := by
  have hS := hV.2.1
  intro d
  induction d with
  | zero =>
    intro p hp aP hA f hf
    obtain ⟨e, rfl⟩ : ∃ e, f = e + 1 := ⟨f - 1, by omega⟩
    have ei : p = 4 := by omega
    subst ei
    refine br_t (nI_le (b := 4) (Nat.le_refl _) (by decide)) (nm_r (e' := nI (S 4) + (-1)) (by rw [hB.1, Int32.sub_eq_add_neg]) (Exists.intro (S 4 + 1) ?_))
    exact qx_learn48 hV hB hw hA (fun fs' aR' aW' aB' aA' aF' aE' => hpost fs' aP aR' aW' aB' aA' aF' aE') (S 4) (Nat.le_refl _) aR (fun k h1 h2 => by omega) _ (by omega)
  | succ d ih =>
    intro p hp aP hA f hf
    obtain ⟨e, rfl⟩ : ∃ e, f = e + 1 := ⟨f - 1, by omega⟩
    refine br_f (nI_ge (b := 4) (by omega) (by decide)) ?_
    refine qx_measure hV hB (by omega) (fun aP' h1 h2 => nm_r (nI_1 p) (ih (p + 1) (by omega) aP' ?_ e (by omega)))
    intro q hq
    by_cases z : q = p
    · subst z; exact h1
    · intro hwq k hk
      have := hV.1 q (by omega)
      rw [h2 _ (by omega)]
      exact hA q (by omega) hwq k hk
end QE
end
section
/-! what X keeps -/
def qg_K (T : Nat → Nat → Nat) (S : Nat → Nat) (aR aF aE : Nat → Int32) : Prop :=
  qp_op (T 4) (S 4) = 0 ∧ ql_R T S 0 aR ∧ ql_F T S 0 aF ∧ (∀ a b, a < S 4 → b < S 4 → (aE a = aE b ↔ qp_Q (T 4) (S 4) a b))
def qg_G (T : Nat → Nat → Nat) (S : Nat → Nat) (u : SX) : Prop := match u with
  | (fc, fk, fs, aS, aT, aP, aU, aR, aW, aB, aA, aF, aE) => qg_B T S fc aS aT aU ∧ (¬ fk = 0 → qg_K T S aR aF aE)
section QA
variable {T : Nat → Nat → Nat} {S : Nat → Nat} {fc fk fs : Int32} {aS aT aP aU aR : Nat → Int32} {aW : Nat → Int64} {aB aA aF aE : Nat → Int32}
theorem qx_learn {post : Int32 → SX → Prop} (hV : qg_V T S) (hG : qg_G T S (fc, fk, fs, aS, aT, aP, aU, aR, aW, aB, aA, aF, aE)) (h0 : ¬ qp_op (T 4) (S 4) = 0 → post 0 (fc, fk, fs, aS, aT, aP, aU, aR, aW, aB, aA, aF, aE)) (h1 : qp_op (T 4) (S 4) = 0 → ∀ fk' fs' aP' aR' aW' aB' aA' aF' aE', qg_K T S aR' aF' aE' → qg_G T S (fc, fk', fs', aS, aT, aP', aU, aR', aW', aB', aA', aF', aE') → post 1 (fc, fk', fs', aS, aT, aP', aU, aR', aW', aB', aA', aF', aE')) : wpX_learn post (fc, fk, fs, aS, aT, aP, aU, aR, aW, aB, aA, aF, aE) := by
  have hB : qg_B T S fc aS aT aU := hG.1
  have hK : ¬ fk = 0 → qg_K T S aR aF aE := hG.2
  unfold wpX_learn
  refine qx_whole hV hB (fun hw => br_f (by decide) (br_c (fun z => ?_) (fun z => ?_))) (fun hw => br_t rfl (h0 hw))
  · refine Exists.intro 5 (qx_learn25 hV hB hw ?_ 4 0 rfl aP (fun q hq => absurd hq (Nat.not_lt_zero q)) 5 (by decide))
    intro fs' aP' aR' aW' aB' aA' aF' aE' r1 r2 r3
    have k : qg_K T S aR' aF' aE' := ⟨hw, r1, r2, fun a b ha hb => r3.2 a b (Nat.zero_le _) ha (Nat.zero_le _) hb⟩
    exact h1 hw 1 fs' aP' aR' aW' aB' aA' aF' aE' k ⟨hB, fun _ => k⟩
  · exact h1 hw fk fs aP aR aW aB aA aF aE (hK z) hG
theorem qx_isNode {n : Nat} {post : Int32 → SX → Prop} (hV : qg_V T S) (hG : qg_G T S (fc, fk, fs, aS, aT, aP, aU, aR, aW, aB, aA, aF, aE)) (hn : n < 2 ^ 31) (h0 : ¬ (qp_op (T 4) (S 4) = 0 ∧ n < S 4) → post 0 (fc, fk, fs, aS, aT, aP, aU, aR, aW, aB, aA, aF, aE)) (h1 : qp_op (T 4) (S 4) = 0 → n < S 4 → ∀ fk' fs' aP' aR' aW' aB' aA' aF' aE', qg_K T S aR' aF' aE' → qg_G T S (fc, fk', fs', aS, aT, aP', aU, aR', aW', aB', aA', aF', aE') → post 1 (fc, fk', fs', aS, aT, aP', aU, aR', aW', aB', aA', aF', aE')) : wpX_isNode post (fc, fk, fs, aS, aT, aP, aU, aR, aW, aB, aA, aF, aE) (nI n) := by
  have hS := hV.2.1
  unfold wpX_isNode
  refine br_f (nI_pos hn) (pk_le (S 4) n (fun h => h0 (by omega)) (fun h => ?_) hG.1.1 rfl)
  refine qx_learn hV hG (fun hw => br_t rfl (h0 (fun z => hw z.1))) (fun hw => ?_)
  intro fk' fs' aP' aR' aW' aB' aA' aF' aE' k g
  exact br_f (by decide) (h1 hw h fk' fs' aP' aR' aW' aB' aA' aF' aE' k g)
theorem qx_isNode_neg {x : Int32} {post : Int32 → SX → Prop} (hx : x < 0) (h0 : post 0 (fc, fk, fs, aS, aT, aP, aU, aR, aW, aB, aA, aF, aE)) : wpX_isNode post (fc, fk, fs, aS, aT, aP, aU, aR, aW, aB, aA, aF, aE) x := br_t hx h0
theorem qx_fitsAt {n : Nat} {post : Int32 → SX → Prop} (hV : qg_V T S) (hG : qg_G T S (fc, fk, fs, aS, aT, aP, aU, aR, aW, aB, aA, aF, aE)) (hn : n < 2 ^ 31) (hpost : ∀ fk' fs' aP' aR' aW' aB' aA' aF' aE', (qp_op (T 4) (S 4) = 0 → n < S 4 → qg_K T S aR' aF' aE') → qg_G T S (fc, fk', fs', aS, aT, aP', aU, aR', aW', aB', aA', aF', aE') → post (qg_FF T S n) (fc, fk', fs', aS, aT, aP', aU, aR', aW', aB', aA', aF', aE')) : wpX_fitsAt post (fc, fk, fs, aS, aT, aP, aU, aR, aW, aB, aA, aF, aE) (nI n) := by
  have hS := hV.2.1
  unfold wpX_fitsAt
  refine qx_isNode hV hG hn (fun h => br_t rfl ?_) (fun hw hn4 => ?_)
  · have e := qg_FF_0 h
    have := hpost fk fs aP aR aW aB aA aF aE (fun a b => absurd ⟨a, b⟩ h) hG
    rw [e] at this
    exact this
  · intro fk' fs' aP' aR' aW' aB' aA' aF' aE' k g
    refine br_f (by decide) (And.intro (vp_in_nI (by omega) (by decide)) ?_)
    rw [nI_clamp hn, k.2.2.1 n (Nat.zero_le _) hn4]
    exact hpost fk' fs' aP' aR' aW' aB' aA' aF' aE' (fun _ _ => k) g
theorem qx_fitsAt_neg {x : Int32} {post : Int32 → SX → Prop} (hx : x < 0) (h0 : post 0 (fc, fk, fs, aS, aT, aP, aU, aR, aW, aB, aA, aF, aE)) : wpX_fitsAt post (fc, fk, fs, aS, aT, aP, aU, aR, aW, aB, aA, aF, aE) x := by
  unfold wpX_fitsAt
  exact qx_isNode_neg hx (br_t rfl h0)
theorem qx_count4 {p : Nat} {post : Int32 → SX → Prop} (hV : qg_V T S) (hp : p < 4) (hpost : ∀ u, qg_G T S u → post (nI (qz_cn (qg_fb T S p) (S 4))) u) :
    ∀ d n, n + d = S 4 → ∀ fc fk fs aS aT aP aU aR aW aB aA aF aE, qg_G T S (fc, fk, fs, aS, aT, aP, aU, aR, aW, aB, aA, aF, aE) → ∀ f, d < f → wX_count_4 post (nI p) f (nI (qz_cn (qg_fb T S p) n)) (nI n) fc fk fs aS aT aP aU aR aW aB aA aF aE := by
  have hS := hV.2.1
  intro d
  induction d with
  | zero =>
    intro n hn fc fk fs aS aT aP aU aR aW aB aA aF aE hG f hf
    obtain ⟨e, rfl⟩ : ∃ e, f = e + 1 := ⟨f - 1, by omega⟩
    have en : n = S 4 := by omega
    subst en
    exact pk_le (S 4) (S 4) (fun _ => hpost _ hG) (fun h => absurd h (Nat.lt_irrefl _)) hG.1.1 rfl
  | succ d ih =>
    intro n hn fc fk fs aS aT aP aU aR aW aB aA aF aE hG f hf
    obtain ⟨e, rfl⟩ : ∃ e, f = e + 1 := ⟨f - 1, by omega⟩
    refine pk_le (S 4) n (fun h => absurd h (by omega)) (fun h => ?_) hG.1.1 rfl
    refine qx_pat hp (br_f (by decide) ?_)
    refine qx_fitsAt hV hG (by omega) ?_
    intro fk' fs' aP' aR' aW' aB' aA' aF' aE' k g
    have hi := ih (n + 1) (by omega) _ _ _ _ _ _ _ _ _ _ _ _ _ g e (by omega)
    refine nm_r (e' := nI (qz_cn (qg_fb T S p) (n + 1))) ?_ (nm_r (nI_1 n) hi)
    rw [qg_FF_bit hp]
    cases z : qg_fb T S p n with
    | true => rw [qz_cn_t z]; exact nI_1 _
    | false => rw [qz_cn_f z]; exact Int32.add_zero _
theorem qx_count {p : Nat} {post : Int32 → SX → Prop} (hV : qg_V T S) (hG : qg_G T S (fc, fk, fs, aS, aT, aP, aU, aR, aW, aB, aA, aF, aE)) (hp : p < 4) (hpost : ∀ u, qg_G T S u → post (nI (qz_cn (qg_fb T S p) (S 4))) u) : wpX_count post (fc, fk, fs, aS, aT, aP, aU, aR, aW, aB, aA, aF, aE) (nI p) :=
  Exists.intro (S 4 + 1) (qx_count4 hV hp hpost (S 4) 0 (by omega) _ _ _ _ _ _ _ _ _ _ _ _ _ hG _ (by omega))
theorem qx_count_n {x : Int32} {post : Int32 → SX → Prop} (hx : x < 0 ∨ nI 4 ≤ x) (hpost : post 0 (fc, fk, fs, aS, aT, aP, aU, aR, aW, aB, aA, aF, aE)) : wpX_count post (fc, fk, fs, aS, aT, aP, aU, aR, aW, aB, aA, aF, aE) x :=
  Exists.intro 1 (br_c (fun _ => hpost) (fun _ => qx_pat_n hx (br_t rfl hpost)))
theorem qx_next10 {p : Nat} {post : Int32 → SX → Prop} (hV : qg_V T S) (hp : p < 4) :
    ∀ d n, d = S 4 - n → n < 2 ^ 31 → (∀ u, qg_G T S u → post (qz_nx (qg_fb T S p) d n) u) → ∀ fc fk fs aS aT aP aU aR aW aB aA aF aE, qg_G T S (fc, fk, fs, aS, aT, aP, aU, aR, aW, aB, aA, aF, aE) → ∀ f, d < f → wX_next_10 post (nI p) f (nI n) fc fk fs aS aT aP aU aR aW aB aA aF aE := by
  have hS := hV.2.1
  intro d
  induction d with
  | zero =>
    intro n hn hn2 hpost fc fk fs aS aT aP aU aR aW aB aA aF aE hG f hf
    obtain ⟨e, rfl⟩ : ∃ e, f = e + 1 := ⟨f - 1, by omega⟩
    exact pk_le (S 4) n (fun _ => hpost _ hG) (fun h => absurd h (by omega)) hG.1.1 rfl
  | succ d ih =>
    intro n hn hn2 hpost fc fk fs aS aT aP aU aR aW aB aA aF aE hG f hf
    obtain ⟨e, rfl⟩ : ∃ e, f = e + 1 := ⟨f - 1, by omega⟩
    refine pk_le (S 4) n (fun h => absurd h (by omega)) (fun h => ?_) hG.1.1 rfl
    refine qx_pat hp (br_f (by decide) ?_)
    refine qx_fitsAt hV hG (by omega) ?_
    intro fk' fs' aP' aR' aW' aB' aA' aF' aE' k g
    show ((qg_FF T S n >>> (nI p &&& 31)) &&& 1 = 0 → _) ∧ (¬ (qg_FF T S n >>> (nI p &&& 31)) &&& 1 = 0 → _)
    rw [qg_FF_bit hp]
    cases z : qg_fb T S p n with
    | true =>
      rw [qz_nx_t z] at hpost
      exact br_f (by decide) (hpost _ g)
    | false =>
      rw [qz_nx_f z] at hpost
      exact br_t rfl (nm_r (nI_1 n) (ih (n + 1) (by omega) (by omega) hpost _ _ _ _ _ _ _ _ _ _ _ _ _ g e (by omega)))
theorem qx_next {p n : Nat} {post : Int32 → SX → Prop} (hV : qg_V T S) (hG : qg_G T S (fc, fk, fs, aS, aT, aP, aU, aR, aW, aB, aA, aF, aE)) (hp : p < 4) (hn : n < 2 ^ 31) (hpost : ∀ u, qg_G T S u → post (qz_nx (qg_fb T S p) (S 4 - n) n) u) : wpX_next post (fc, fk, fs, aS, aT, aP, aU, aR, aW, aB, aA, aF, aE) (nI p) (nI n) := by
  unfold wpX_next
  exact br_t (nI_pos' hn) (Exists.intro (S 4 - n + 1) (qx_next10 hV hp _ n rfl hn hpost _ _ _ _ _ _ _ _ _ _ _ _ _ hG _ (by omega)))
theorem qx_next_neg {p : Nat} {x : Int32} {post : Int32 → SX → Prop} (hV : qg_V T S) (hG : qg_G T S (fc, fk, fs, aS, aT, aP, aU, aR, aW, aB, aA, aF, aE)) (hp : p < 4) (hx : x < 0) (hpost : ∀ u, qg_G T S u → post (qz_nx (qg_fb T S p) (S 4 - 0) 0) u) : wpX_next post (fc, fk, fs, aS, aT, aP, aU, aR, aW, aB, aA, aF, aE) (nI p) x := by
  unfold wpX_next
  exact br_f (Int32.not_le.mpr hx) (Exists.intro (S 4 - 0 + 1) (qx_next10 hV hp _ 0 rfl (by decide) hpost _ _ _ _ _ _ _ _ _ _ _ _ _ hG _ (by omega)))
theorem qx_next_n {x y : Int32} {post : Int32 → SX → Prop} (hx : x < 0 ∨ nI 4 ≤ x) (hpost : post (-1) (fc, fk, fs, aS, aT, aP, aU, aR, aW, aB, aA, aF, aE)) : wpX_next post (fc, fk, fs, aS, aT, aP, aU, aR, aW, aB, aA, aF, aE) x y := by
  unfold wpX_next
  refine br_c (fun _ => Exists.intro 1 ?_) (fun _ => Exists.intro 1 ?_)
  · exact br_c (fun _ => hpost) (fun _ => qx_pat_n hx (br_t rfl hpost))
  · exact br_c (fun _ => hpost) (fun _ => qx_pat_n hx (br_t rfl hpost))
theorem qx_gapAt30 {p n : Nat} {x : Int32} {post : Int32 → SX → Prop} (hV : qg_V T S) (hG : qg_G T S (fc, fk, fs, aS, aT, aP, aU, aR, aW, aB, aA, aF, aE)) (hK : qg_K T S aR aF aE) (hp : p < 4) (hf : qg_fb T S p n = true) :
    ∀ d i g a, i + d = S p → g ≤ i → qp_ly (T p) (T 4) (S 4) n i = some a → post (qz_ga (T p) (fun i => qz_o (qp_ly (T p) (T 4) (S 4) n i)) x d i g) (fc, fk, fs, aS, aT, aP, aU, aR, aW, aB, aA, aF, aE) → ∀ f, d < f → wX_gapAt_30 post (nI p) x fc fk fs aS aT aP aU aR aW aB aA aF aE f (nI a) (nI g) (nI i) := by
  have hB : qg_B T S fc aS aT aU := hG.1
  have hs := qx_sz hB hp
  have hSp := hV.1 p hp
  have hS4 := hV.2.1
  obtain ⟨hwp, hw, hn, hall⟩ := qg_fb_t.mp hf
  have hVp := qg_VV hV (l := p) (by omega)
  have hV4 := qg_VV hV (l := 4) (by omega)
  intro d
  induction d with
  | zero =>
    intro i g a hi hg ha hpost f hf
    obtain ⟨m, rfl⟩ : ∃ m, f = m + 1 := ⟨f - 1, by omega⟩
    refine And.intro (vp_in_nI (by omega) (by decide)) (br_t ?_ hpost)
    rw [hs]; exact nI_le (by omega) (by omega)
  | succ d ih =>
    intro i g a hi hg ha hpost f hf
    obtain ⟨m, rfl⟩ : ∃ m, f = m + 1 := ⟨f - 1, by omega⟩
    have hT := hV.2.2.1 p hp i (by omega)
    have ha4 := qp_ly_in hVp hwp hV4 hw hn (by omega) ha
    obtain ⟨a', ha'⟩ := qp_ly_some (i := i + 1) (by omega) hall
    have hst := qp_ly_ss ha
    have hpost' : post (if T p i = 7 then (if nI g = x then qz_o (qp_ly (T p) (T 4) (S 4) n i) else qz_ga (T p) (fun i => qz_o (qp_ly (T p) (T 4) (S 4) n i)) x d (i + 1) (g + 1)) else qz_ga (T p) (fun i => qz_o (qp_ly (T p) (T 4) (S 4) n i)) x d (i + 1) g) (fc, fk, fs, aS, aT, aP, aU, aR, aW, aB, aA, aF, aE) := hpost
    refine And.intro (vp_in_nI (by omega) (by decide)) (br_f ?_ (And.intro (qx_in hp (by omega)) ?_))
    · rw [hs]; exact nI_ge (by omega) (by omega)
    · rw [qx_tk hV hB hp (by omega)]
      refine pk_eq (T p i) 7 (fun h7 => ?_) (fun h7 => ?_)
      · rw [if_pos h7] at hpost'
        refine br_c (fun hx => ?_) (fun hx => ?_)
        · rw [if_pos hx, ha] at hpost'
          exact hpost'
        · rw [if_neg hx] at hpost'
          rw [h7, qp_st_7] at hst
          have hgt := qp_bh_gt hV4 hw ha4
          refine nm_r (nI_1 g) (And.intro (vp_in_nI (by omega) (by decide)) (nm_r (e' := nI (qp_bh (T 4) (S 4) a)) ?_ (nm_r (nI_1 i) (ih (i + 1) (g + 1) _ (by omega) (by omega) hst hpost' m (by omega)))))
          rw [nI_clamp (by omega), hK.2.1 a (Nat.zero_le _) ha4, nI_add, show a + (qp_bh (T 4) (S 4) a - a) = qp_bh (T 4) (S 4) a by omega]
      · rw [if_neg h7] at hpost'
        have e1 : a' = a + 1 := by
          rw [hst] at ha'
          by_cases y : a < S 4 ∧ T 4 a = T p i
          · rw [qp_st_y h7 y.1 y.2] at ha'
            exact (Option.some.inj ha').symm
          · rw [qp_st_n h7 y] at ha'
            exact absurd ha' (by simp)
        rw [e1] at ha'
        exact nm_r (nI_1 a) (nm_r (nI_1 i) (ih (i + 1) g _ (by omega) (by omega) ha' hpost' m (by omega)))
theorem qx_gapAt {p n : Nat} {x : Int32} {post : Int32 → SX → Prop} (hV : qg_V T S) (hG : qg_G T S (fc, fk, fs, aS, aT, aP, aU, aR, aW, aB, aA, aF, aE)) (hp : p < 4) (hn : n < 2 ^ 31) (h1 : qg_fb T S p n = true → ∀ u, qg_G T S u → post (qz_ga (T p) (fun i => qz_o (qp_ly (T p) (T 4) (S 4) n i)) x (S p) 0 0) u) (h0 : qg_fb T S p n = false → ∀ u, qg_G T S u → post (-1) u) : wpX_gapAt post (fc, fk, fs, aS, aT, aP, aU, aR, aW, aB, aA, aF, aE) (nI p) (nI n) x := by
  unfold wpX_gapAt
  refine qx_pat hp (br_f (by decide) ?_)
  refine qx_fitsAt hV hG hn ?_
  intro fk' fs' aP' aR' aW' aB' aA' aF' aE' k g
  show ((qg_FF T S n >>> (nI p &&& 31)) &&& 1 = 0 → _) ∧ (¬ (qg_FF T S n >>> (nI p &&& 31)) &&& 1 = 0 → _)
  rw [qg_FF_bit hp]
  cases z : qg_fb T S p n with
  | true =>
    obtain ⟨_, hw, hn4, _⟩ := qg_fb_t.mp z
    exact br_f (by decide) (Exists.intro (S p + 1) (qx_gapAt30 hV g (k hw hn4) hp z (S p) 0 0 n (by omega) (Nat.le_refl _) rfl (h1 z _ g) _ (by omega)))
  | false => exact br_t rfl (h0 z _ g)
theorem qx_gapAt_n {x y z : Int32} {post : Int32 → SX → Prop} (hx : x < 0 ∨ nI 4 ≤ x) (h0 : post (-1) (fc, fk, fs, aS, aT, aP, aU, aR, aW, aB, aA, aF, aE)) : wpX_gapAt post (fc, fk, fs, aS, aT, aP, aU, aR, aW, aB, aA, aF, aE) x y z := by
  unfold wpX_gapAt
  exact qx_pat_n hx (br_t rfl h0)
theorem qx_gapAt_neg {p : Nat} {y z : Int32} {post : Int32 → SX → Prop} (hp : p < 4) (hy : y < 0) (h0 : post (-1) (fc, fk, fs, aS, aT, aP, aU, aR, aW, aB, aA, aF, aE)) : wpX_gapAt post (fc, fk, fs, aS, aT, aP, aU, aR, aW, aB, aA, aF, aE) (nI p) y z := by
  unfold wpX_gapAt
  refine qx_pat hp (br_f (by decide) ?_)
  refine qx_fitsAt_neg hy ?_
  refine br_t ?_ h0
  match p, hp with
  | 0, _ => decide
  | 1, _ => decide
  | 2, _ => decide
  | 3, _ => decide
theorem qx_size {n : Nat} {post : Int32 → SX → Prop} (hV : qg_V T S) (hG : qg_G T S (fc, fk, fs, aS, aT, aP, aU, aR, aW, aB, aA, aF, aE)) (hn : n < 2 ^ 31) (h1 : qp_op (T 4) (S 4) = 0 → n < S 4 → ∀ u, qg_G T S u → post (nI (qp_bh (T 4) (S 4) n - n)) u) (h0 : ¬ (qp_op (T 4) (S 4) = 0 ∧ n < S 4) → post (-1) (fc, fk, fs, aS, aT, aP, aU, aR, aW, aB, aA, aF, aE)) : wpX_size post (fc, fk, fs, aS, aT, aP, aU, aR, aW, aB, aA, aF, aE) (nI n) := by
  have hS := hV.2.1
  unfold wpX_size
  refine qx_isNode hV hG hn (fun h => br_t rfl (h0 h)) (fun hw hn4 => ?_)
  intro fk' fs' aP' aR' aW' aB' aA' aF' aE' k g
  refine br_f (by decide) (And.intro (vp_in_nI (by omega) (by decide)) ?_)
  rw [nI_clamp hn, k.2.1 n (Nat.zero_le _) hn4]
  exact h1 hw hn4 _ g
theorem qx_size_neg {x : Int32} {post : Int32 → SX → Prop} (hx : x < 0) (h0 : post (-1) (fc, fk, fs, aS, aT, aP, aU, aR, aW, aB, aA, aF, aE)) : wpX_size post (fc, fk, fs, aS, aT, aP, aU, aR, aW, aB, aA, aF, aE) x := by
  unfold wpX_size
  exact qx_isNode_neg hx (br_t rfl h0)
theorem qx_equal {m n : Nat} {post : Int32 → SX → Prop} (hV : qg_V T S) (hG : qg_G T S (fc, fk, fs, aS, aT, aP, aU, aR, aW, aB, aA, aF, aE)) (hm : m < 2 ^ 31) (hn : n < 2 ^ 31) (h1 : qp_op (T 4) (S 4) = 0 → m < S 4 → n < S 4 → qp_Q (T 4) (S 4) m n → ∀ u, qg_G T S u → post 1 u) (h0 : ¬ (qp_op (T 4) (S 4) = 0 ∧ m < S 4 ∧ n < S 4 ∧ qp_Q (T 4) (S 4) m n) → ∀ u, qg_G T S u → post 0 u) : wpX_equal post (fc, fk, fs, aS, aT, aP, aU, aR, aW, aB, aA, aF, aE) (nI m) (nI n) := by
  have hS := hV.2.1
  unfold wpX_equal
  refine qx_isNode hV hG hm (fun h => br_t rfl (h0 (fun z => h ⟨z.1, z.2.1⟩) _ hG)) (fun hw hm4 => ?_)
  intro fk' fs' aP' aR' aW' aB' aA' aF' aE' k g
  refine br_f (by decide) ?_
  refine qx_isNode hV g hn (fun h => br_t rfl (h0 (fun z => h ⟨z.1, z.2.2.1⟩) _ g)) (fun _ hn4 => ?_)
  intro fk2 fs2 aP2 aR2 aW2 aB2 aA2 aF2 aE2 k2 g2
  refine br_f (by decide) (And.intro (vp_in_nI (by omega) (by decide)) (And.intro (vp_in_nI (by omega) (by decide)) ?_))
  rw [nI_clamp hm, nI_clamp hn, k2.2.2.2 m n hm4 hn4]
  exact br_c (fun q => h1 hw hm4 hn4 q _ g2) (fun q => h0 (fun z => q z.2.2.2) _ g2)
theorem qx_equal_n1 {x y : Int32} {post : Int32 → SX → Prop} (hx : x < 0) (h0 : post 0 (fc, fk, fs, aS, aT, aP, aU, aR, aW, aB, aA, aF, aE)) : wpX_equal post (fc, fk, fs, aS, aT, aP, aU, aR, aW, aB, aA, aF, aE) x y := by
  unfold wpX_equal
  exact qx_isNode_neg hx (br_t rfl h0)
theorem qx_equal_n2 {m : Nat} {y : Int32} {post : Int32 → SX → Prop} (hV : qg_V T S) (hG : qg_G T S (fc, fk, fs, aS, aT, aP, aU, aR, aW, aB, aA, aF, aE)) (hm : m < 2 ^ 31) (hy : y < 0) (h0 : ∀ u, qg_G T S u → post 0 u) : wpX_equal post (fc, fk, fs, aS, aT, aP, aU, aR, aW, aB, aA, aF, aE) (nI m) y := by
  unfold wpX_equal
  refine qx_isNode hV hG hm (fun h => br_t rfl (h0 _ hG)) (fun hw hm4 => ?_)
  intro fk' fs' aP' aR' aW' aB' aA' aF' aE' k g
  refine br_f (by decide) ?_
  exact qx_isNode_neg hy (br_t rfl (h0 _ g))
end QA
end
section
section QD
variable {T : Nat → Nat → Nat} {S : Nat → Nat} {fc fk fs : Int32} {aS aT aP aU aR : Nat → Int32} {aW : Nat → Int64} {aB aA aF aE : Nat → Int32}
theorem qk_1 : ∀ i, i < 32 → bt 1 i = decide (i = 0) := by decide +kernel
theorem qk_bit (x : Int32) {n : Nat} (hn : n < 32) : (x >>> (nI n &&& 31)) &&& 1 = if bt x n = true then 1 else 0 := by
  apply b_ext
  intro i hi
  rw [b_and, b_sshr n hn x hi, qk_1 i hi]
  by_cases z : i = 0
  · subst z
    rw [Nat.add_zero, if_pos hn]
    cases e : bt x n with
    | true => decide
    | false => decide
  · rw [decide_eq_false z, Bool.and_false]
    cases e : bt x n with
    | true =>
      show false = bt 1 i
      rw [qk_1 i hi, decide_eq_false z]
    | false => exact (b_0 i).symm
def qk_s (F : Nat → Int32) : Nat → Int32
  | 0 => 0
  | n + 1 => qk_s F n ||| ((1 : Int32) <<< (F n &&& 31))
theorem qk_s_bit {F : Nat → Int32} (hF : ∀ n, ∃ j, j < 16 ∧ F n = nI j) {z : Nat} (hz : z < 16) : ∀ n, bt (qk_s F n) z = true ↔ ∃ k, k < n ∧ F k = nI z
  | 0 => by
    constructor
    · intro h
      have h' : bt 0 z = true := h
      rw [b_0] at h'
      exact absurd h' (by decide)
    · intro ⟨k, h, _⟩
      exact absurd h (Nat.not_lt_zero k)
  | n + 1 => by
    have ih := qk_s_bit hF hz n
    obtain ⟨j, hj, e⟩ := hF n
    have h1 : bt ((1 : Int32) <<< (nI j &&& 31)) z = decide (j = z) := by
      unfold bt
      rw [nf_sh j (by omega), BitVec.getLsbD_twoPow, decide_eq_true (show j < 32 by omega), Bool.true_and]
    show bt (qk_s F n ||| ((1 : Int32) <<< (F n &&& 31))) z = true ↔ _
    rw [b_or, e, h1, Bool.or_eq_true, ih, decide_eq_true_iff]
    constructor
    · intro h
      rcases h with ⟨k, h2, h3⟩ | h
      · exact ⟨k, by omega, h3⟩
      · subst h; exact ⟨n, by omega, e⟩
    · intro ⟨k, h2, h3⟩
      by_cases y : k = n
      · subst y
        rw [e, nI_eq (by omega) (by omega)] at h3
        exact Or.inr h3
      · exact Or.inl ⟨k, by omega, h3⟩
theorem qk_eq (hV : qg_V T S) (hw : qp_op (T 4) (S 4) = 0) : qz_cn (fun z => bt (qk_s (qg_FF T S) (S 4)) z) 16 = qz_cn (fun z => qz_ex (qg_kd T S z) 25) 16 := by
  have hS := hV.2.1
  refine qz_cn_c 16 (fun z hz => ?_)
  have h1 := qk_s_bit (F := qg_FF T S) (fun n => qz_F_n _) hz (S 4)
  have h2 := qz_ex_i (f := qg_kd T S z) 25
  have h3 : bt (qk_s (qg_FF T S) (S 4)) z = true ↔ qz_ex (qg_kd T S z) 25 = true := by
    rw [h1, h2]
    constructor
    · intro ⟨k, a, b⟩
      exact ⟨k, by omega, decide_eq_true ⟨hw, a, b⟩⟩
    · intro ⟨k, a, b⟩
      have c := of_decide_eq_true b
      exact ⟨k, c.2.1, c.2.2⟩
  show bt (qk_s (qg_FF T S) (S 4)) z = qz_ex (qg_kd T S z) 25
  cases e1 : bt (qk_s (qg_FF T S) (S 4)) z with
  | true => exact (h3.mp e1).symm
  | false =>
    cases e2 : qz_ex (qg_kd T S z) 25 with
    | false => rfl
    | true =>
      have := h3.mpr e2
      rw [e1] at this
      exact this
theorem qz_cn_0 {f : Nat → Bool} (h : ∀ n, f n = false) : ∀ n, qz_cn f n = 0
  | 0 => rfl
  | n + 1 => (qz_cn_f (h n)).trans (qz_cn_0 h n)
theorem qk_eq0 (hw : ¬ qp_op (T 4) (S 4) = 0) : qz_cn (fun z => qz_ex (qg_kd T S z) 25) 16 = 0 := by
  refine qz_cn_0 (fun z => ?_) 16
  cases e : qz_ex (qg_kd T S z) 25 with
  | false => rfl
  | true =>
    obtain ⟨k, _, b⟩ := (qz_ex_i 25).mp e
    exact absurd (of_decide_eq_true b).1 hw
theorem qx_kinds42 {x : Int32} {post : Int32 → SX → Prop} (hpost : post (nI (qz_cn (fun z => bt x z) 16)) (fc, fk, fs, aS, aT, aP, aU, aR, aW, aB, aA, aF, aE)) :
    ∀ d z, z + d = 16 → ∀ f, d < f → wX_kinds_42 post x fc fk fs aS aT aP aU aR aW aB aA aF aE f (nI (qz_cn (fun z => bt x z) z)) (nI z) := by
  intro d
  induction d with
  | zero =>
    intro z hz f hf
    obtain ⟨e, rfl⟩ : ∃ e, f = e + 1 := ⟨f - 1, by omega⟩
    have en : z = 16 := by omega
    subst en
    exact br_t (nI_le (b := 16) (Nat.le_refl _) (by decide)) hpost
  | succ d ih =>
    intro z hz f hf
    obtain ⟨e, rfl⟩ : ∃ e, f = e + 1 := ⟨f - 1, by omega⟩
    refine br_f (nI_ge (b := 16) (by omega) (by decide)) ?_
    refine nm_r (e' := nI (qz_cn (fun z => bt x z) (z + 1))) ?_ (nm_r (nI_1 z) (ih (z + 1) (by omega) e (by omega)))
    rw [qk_bit x (by omega)]
    cases y : bt x z with
    | true => rw [qz_cn_t (f := fun z => bt x z) y]; exact nI_1 _
    | false => rw [qz_cn_f (f := fun z => bt x z) y]; exact Int32.add_zero _
theorem qx_kinds13 {post : Int32 → SX → Prop} (hV : qg_V T S) (hG : qg_G T S (fc, fk, fs, aS, aT, aP, aU, aR, aW, aB, aA, aF, aE)) (hK : qg_K T S aR aF aE) (hpost : post (nI (qz_cn (fun z => qz_ex (qg_kd T S z) 25) 16)) (fc, fk, fs, aS, aT, aP, aU, aR, aW, aB, aA, aF, aE)) :
    ∀ d n, n + d = S 4 → ∀ f, d < f → wX_kinds_13 post fc fk fs aS aT aP aU aR aW aB aA aF aE f (qk_s (qg_FF T S) n) (nI n) := by
  have hS := hV.2.1
  intro d
  induction d with
  | zero =>
    intro n hn f hf
    obtain ⟨e, rfl⟩ : ∃ e, f = e + 1 := ⟨f - 1, by omega⟩
    have en : n = S 4 := by omega
    subst en
    refine pk_le (S 4) (S 4) (fun _ => ?_) (fun h => absurd h (Nat.lt_irrefl _)) hG.1.1 rfl
    rw [← qk_eq hV hK.1] at hpost
    exact Exists.intro 17 (qx_kinds42 hpost 16 0 rfl 17 (by decide))
  | succ d ih =>
    intro n hn f hf
    obtain ⟨e, rfl⟩ : ∃ e, f = e + 1 := ⟨f - 1, by omega⟩
    refine pk_le (S 4) n (fun h => absurd h (by omega)) (fun h => And.intro (vp_in_nI (by omega) (by decide)) ?_) hG.1.1 rfl
    rw [nI_clamp (by omega), hK.2.2.1 n (Nat.zero_le _) h]
    exact nm_e (nm_r (nI_1 n) (ih (n + 1) (by omega) e (by omega)))
theorem qx_kinds {post : Int32 → SX → Prop} (hV : qg_V T S) (hG : qg_G T S (fc, fk, fs, aS, aT, aP, aU, aR, aW, aB, aA, aF, aE)) (hpost : ∀ u, qg_G T S u → post (nI (qz_cn (fun z => qz_ex (qg_kd T S z) 25) 16)) u) : wpX_kinds post (fc, fk, fs, aS, aT, aP, aU, aR, aW, aB, aA, aF, aE) := by
  unfold wpX_kinds
  refine qx_learn hV hG (fun hw => br_t rfl ?_) (fun hw => ?_)
  · have := hpost _ hG
    rw [qk_eq0 hw] at this
    exact this
  · intro fk' fs' aP' aR' aW' aB' aA' aF' aE' k g
    exact br_f (by decide) (Exists.intro (S 4 + 1) (qx_kinds13 hV g k (hpost _ g) (S 4) 0 (by omega) _ (by omega)))
theorem qx_bare13 {post : Int32 → SX → Prop} (hV : qg_V T S) (hG : qg_G T S (fc, fk, fs, aS, aT, aP, aU, aR, aW, aB, aA, aF, aE)) (hK : qg_K T S aR aF aE) (hpost : post (nI (qz_cn (qg_kd T S 0) (S 4))) (fc, fk, fs, aS, aT, aP, aU, aR, aW, aB, aA, aF, aE)) :
    ∀ d n, n + d = S 4 → ∀ f, d < f → wX_bare_13 post fc fk fs aS aT aP aU aR aW aB aA aF aE f (nI (qz_cn (qg_kd T S 0) n)) (nI n) := by
  have hS := hV.2.1
  intro d
  induction d with
  | zero =>
    intro n hn f hf
    obtain ⟨e, rfl⟩ : ∃ e, f = e + 1 := ⟨f - 1, by omega⟩
    have en : n = S 4 := by omega
    subst en
    exact pk_le (S 4) (S 4) (fun _ => hpost) (fun h => absurd h (Nat.lt_irrefl _)) hG.1.1 rfl
  | succ d ih =>
    intro n hn f hf
    obtain ⟨e, rfl⟩ : ∃ e, f = e + 1 := ⟨f - 1, by omega⟩
    refine pk_le (S 4) n (fun h => absurd h (by omega)) (fun h => And.intro (vp_in_nI (by omega) (by decide)) ?_) hG.1.1 rfl
    rw [nI_clamp (by omega), hK.2.2.1 n (Nat.zero_le _) h]
    have hi := ih (n + 1) (by omega) e (by omega)
    refine br_c (fun w => ?_) (fun w => ?_)
    · rw [qz_cn_t (show qg_kd T S 0 n = true from decide_eq_true ⟨hK.1, h, w⟩)] at hi
      exact nm_r (nI_1 _) (nm_r (nI_1 n) hi)
    · rw [qz_cn_f (show qg_kd T S 0 n = false from decide_eq_false (fun v => w v.2.2))] at hi
      exact nm_r (Int32.add_zero _) (nm_r (nI_1 n) hi)
theorem qx_bare {post : Int32 → SX → Prop} (hV : qg_V T S) (hG : qg_G T S (fc, fk, fs, aS, aT, aP, aU, aR, aW, aB, aA, aF, aE)) (hpost : ∀ u, qg_G T S u → post (nI (qz_cn (qg_kd T S 0) (S 4))) u) : wpX_bare post (fc, fk, fs, aS, aT, aP, aU, aR, aW, aB, aA, aF, aE) := by
  unfold wpX_bare
  refine qx_learn hV hG (fun hw => br_t rfl ?_) (fun hw => ?_)
  · have := hpost _ hG
    rw [qz_cn_0 (f := qg_kd T S 0) (fun n => decide_eq_false (fun v => hw v.1)) (S 4)] at this
    exact this
  · intro fk' fs' aP' aR' aW' aB' aA' aF' aE' k g
    exact br_f (by decide) (Exists.intro (S 4 + 1) (qx_bare13 hV g k (hpost _ g) (S 4) 0 (by omega) _ (by omega)))
theorem qx_covers28 {p q : Nat} {post : Int32 → SX → Prop} (hV : qg_V T S) (hB : qg_B T S fc aS aT aU) (hp : p < 4) (hq : q < 4) (hwp : qp_op (T p) (S p) = 0) (hwq : qp_op (T q) (S q) = 0) (hP : qm_S T S q aP) (h1 : (qp_ly (T p) (T q) (S q) 0 (S p)).isSome = true → post 1 (fc, fk, fs, aS, aT, aP, aU, aR, aW, aB, aA, aF, aE)) (h0 : (qp_ly (T p) (T q) (S q) 0 (S p)).isSome = false → post 0 (fc, fk, fs, aS, aT, aP, aU, aR, aW, aB, aA, aF, aE)) :
    ∀ d i a, i + d = S p → qp_ly (T p) (T q) (S q) 0 i = some a → ∀ f, d < f → wX_covers_28 post (nI p) (nI q) fc fk fs aS aT aP aU aR aW aB aA aF aE f (nI a) (nI i) := by
  have hs := qx_sz hB hp
  have hSp := hV.1 p hp
  have hSq := hV.1 q hq
  have hVp := qg_VV hV (l := p) (by omega)
  have hVq := qg_VV hV (l := q) (by omega)
  intro d
  induction d with
  | zero =>
    intro i a hi ha f hf
    obtain ⟨m, rfl⟩ : ∃ m, f = m + 1 := ⟨f - 1, by omega⟩
    have e : i = S p := by omega
    subst e
    refine And.intro (vp_in_nI (by omega) (by decide)) (br_t ?_ (h1 (by rw [ha]; rfl)))
    rw [hs]; exact nI_le (by omega) (by omega)
  | succ d ih =>
    intro i a hi ha f hf
    obtain ⟨m, rfl⟩ : ∃ m, f = m + 1 := ⟨f - 1, by omega⟩
    have hT := hV.2.2.1 p hp i (by omega)
    have haq := qp_ly_in hVp hwp hVq hwq (qp_pos hwq) (by omega) ha
    have hT2 := hV.2.2.1 q hq a haq
    have hst := qp_ly_ss ha
    have hgt := qp_bh_gt hVq hwq haq
    refine And.intro (vp_in_nI (by omega) (by decide)) (br_f ?_ (And.intro (qx_in hp (by omega)) ?_))
    · rw [hs]; exact nI_ge (by omega) (by omega)
    · refine nm_r (qx_tk hV hB hp (by omega)) ?_
      refine pk_eq (T p i) 7 (fun h7 => And.intro (qx_in hq (by omega)) ?_) (fun h7 => And.intro (qx_in hq (by omega)) ?_)
      · rw [h7, qp_st_7] at hst
        refine nm_r (e' := nI (qp_bh (T q) (S q) a)) ?_ (nm_r (nI_1 i) (ih (i + 1) _ (by omega) hst m (by omega)))
        rw [qa_9, nI_clamp (by omega), hP hwq a haq, nI_add, show a + (qp_bh (T q) (S q) a - a) = qp_bh (T q) (S q) a by omega]
      · rw [qx_tk hV hB hq haq]
        refine pk_eq (T p i) (T q a) (fun y => ?_) (fun y => h0 ?_)
        · rw [qp_st_y h7 haq y.symm] at hst
          exact nm_r (nI_1 a) (nm_r (nI_1 i) (ih (i + 1) _ (by omega) hst m (by omega)))
        · rw [qp_st_n h7 (fun z => y z.2.symm)] at hst
          have := qp_ly_nn hst d
          rw [show i + 1 + d = S p by omega] at this
          rw [this]; rfl
theorem qx_covers {p q : Nat} {post : Int32 → SX → Prop} (hV : qg_V T S) (hG : qg_G T S (fc, fk, fs, aS, aT, aP, aU, aR, aW, aB, aA, aF, aE)) (hp : p < 4) (hq : q < 4) (h1 : qp_op (T p) (S p) = 0 → qp_op (T q) (S q) = 0 → (qp_ly (T p) (T q) (S q) 0 (S p)).isSome = true → ∀ u, qg_G T S u → post 1 u) (h0 : ¬ (qp_op (T p) (S p) = 0 ∧ qp_op (T q) (S q) = 0 ∧ (qp_ly (T p) (T q) (S q) 0 (S p)).isSome = true) → ∀ u, qg_G T S u → post 0 u) : wpX_covers post (fc, fk, fs, aS, aT, aP, aU, aR, aW, aB, aA, aF, aE) (nI p) (nI q) := by
  have hB : qg_B T S fc aS aT aU := hG.1
  unfold wpX_covers
  refine qx_complete hV hB hp (fun hwp => br_f (by decide) ?_) (fun z => br_t rfl (h0 (fun y => z y.1) _ hG))
  refine qx_complete hV hB hq (fun hwq => br_f (by decide) ?_) (fun z => br_t rfl (h0 (fun y => z y.2.1) _ hG))
  refine qx_measure hV hB hq (fun aP' hP _ => ?_)
  have g : qg_G T S (fc, fk, fs, aS, aT, aP', aU, aR, aW, aB, aA, aF, aE) := hG
  refine Exists.intro (S p + 1) (qx_covers28 hV hB hp hq hwp hwq hP (fun z => h1 hwp hwq z _ g) (fun z => h0 (fun y => ?_) _ g) (S p) 0 0 (by omega) rfl _ (by omega))
  rw [y.2.2] at z
  exact absurd z (by decide)
theorem qx_covers_n1 {x y : Int32} {post : Int32 → SX → Prop} (hx : x < 0 ∨ nI 4 ≤ x) (h0 : post 0 (fc, fk, fs, aS, aT, aP, aU, aR, aW, aB, aA, aF, aE)) : wpX_covers post (fc, fk, fs, aS, aT, aP, aU, aR, aW, aB, aA, aF, aE) x y := by
  unfold wpX_covers
  exact qx_complete_n hx (br_t rfl h0)
theorem qx_covers_n2 {p : Nat} {y : Int32} {post : Int32 → SX → Prop} (hV : qg_V T S) (hG : qg_G T S (fc, fk, fs, aS, aT, aP, aU, aR, aW, aB, aA, aF, aE)) (hp : p < 4) (hy : y < 0 ∨ nI 4 ≤ y) (h0 : post 0 (fc, fk, fs, aS, aT, aP, aU, aR, aW, aB, aA, aF, aE)) : wpX_covers post (fc, fk, fs, aS, aT, aP, aU, aR, aW, aB, aA, aF, aE) (nI p) y := by
  unfold wpX_covers
  refine qx_complete hV hG.1 hp (fun hwp => br_f (by decide) ?_) (fun z => br_t rfl h0)
  exact qx_complete_n hy (br_t rfl h0)
end QD
end
section
section QO
variable {T : Nat → Nat → Nat} {S : Nat → Nat} {bS bT : Nat → Int32} {fc fk fs : Int32} {aS aT aP aU aR : Nat → Int32} {aW : Nat → Int64} {aB aA aF aE : Nat → Int32}
theorem qo_8 {y : Int32} {a b : Nat} (h : nI b ≤ y) (hab : a < b) (hb : b < 2 ^ 31) : nI a < y := by
  rw [Int32.le_iff_toInt_le, nI_toInt hb] at h
  rw [Int32.lt_iff_toInt_lt, nI_toInt (by omega)]
  omega
theorem qy_extend_n {x y : Int32} {post : Int32 → SY → Prop} (hx : x < 0 ∨ nI 4 ≤ x) (h : post (-1) (bS, bT)) : wpY_extend post (bS, bT) x y := by
  unfold wpY_extend
  exact qy_pat_n hx (br_t rfl h)
theorem qy_extend_t {p : Nat} {y : Int32} {post : Int32 → SY → Prop} (hp : p < 4) (hy : y < 0 ∨ nI 8 ≤ y) (h : post (-1) (bS, bT)) : wpY_extend post (bS, bT) (nI p) y := by
  unfold wpY_extend
  refine qy_pat hp (br_f (by decide) (br_c (fun _ => h) (fun z => br_t ?_ h)))
  rcases hy with w | w
  · exact absurd w z
  · exact qo_8 (a := 7) w (by decide) (by decide)
theorem qy_extend {p x : Nat} {post : Int32 → SY → Prop} (hV : qg_V T S) (hH : qg_H T S bS bT) (hp : p < 4) (hx : x < 8) (h1 : ¬ qp_op (T p) (S p) = 0 → S p < 9 → post (nI (S p + 1)) (upd bS p (nI (S p + 1)), upd bT (25 * p + S p) (nI x))) (h0 : ¬ (¬ qp_op (T p) (S p) = 0 ∧ S p < 9) → post (-2) (bS, bT)) : wpY_extend post (bS, bT) (nI p) (nI x) := by
  unfold wpY_extend
  refine qy_pat hp (br_f (by decide) (br_f (nI_pos (by omega)) (br_f (nI_nlt (a := 7) (b := x) (by omega) (by decide)) ?_)))
  exact qy_append (w := 9) hV hH (by omega) (by decide) h1 h0
theorem qx_extend_n {x y : Int32} {post : Int32 → SX → Prop} (hx : x < 0 ∨ nI 4 ≤ x) (h : post (-1) (fc, fk, fs, aS, aT, aP, aU, aR, aW, aB, aA, aF, aE)) : wpX_extend post (fc, fk, fs, aS, aT, aP, aU, aR, aW, aB, aA, aF, aE) x y := by
  unfold wpX_extend
  exact qx_pat_n hx (br_t rfl h)
theorem qx_extend_t {p : Nat} {y : Int32} {post : Int32 → SX → Prop} (hp : p < 4) (hy : y < 0 ∨ nI 8 ≤ y) (h : post (-1) (fc, fk, fs, aS, aT, aP, aU, aR, aW, aB, aA, aF, aE)) : wpX_extend post (fc, fk, fs, aS, aT, aP, aU, aR, aW, aB, aA, aF, aE) (nI p) y := by
  unfold wpX_extend
  refine qx_pat hp (br_f (by decide) (br_c (fun _ => h) (fun z => br_f ?_ h)))
  rcases hy with w | w
  · exact absurd w z
  · exact Int32.not_le.mpr (qo_8 (a := 7) w (by decide) (by decide))
theorem qy_shorten_n {x : Int32} {post : Int32 → SY → Prop} (hx : x < 0 ∨ nI 4 ≤ x) (h : post (-1) (bS, bT)) : wpY_shorten post (bS, bT) x := by
  unfold wpY_shorten
  exact qy_pat_n hx (br_t rfl h)
theorem qy_shorten {p : Nat} {post : Int32 → SY → Prop} (hV : qg_V T S) (hH : qg_H T S bS bT) (hp : p < 4) (h1 : 0 < S p → post (nI (T p (S p - 1))) (upd bS p (nI (S p - 1)), bT)) (h0 : S p = 0 → post (-1) (bS, bT)) : wpY_shorten post (bS, bT) (nI p) := by
  unfold wpY_shorten
  refine qy_pat hp (br_f (by decide) ?_)
  exact qy_tookk hV hH (by omega) h1 h0
theorem qx_shorten_n {x : Int32} {post : Int32 → SX → Prop} (hx : x < 0 ∨ nI 4 ≤ x) (h : post (-1) (fc, fk, fs, aS, aT, aP, aU, aR, aW, aB, aA, aF, aE)) : wpX_shorten post (fc, fk, fs, aS, aT, aP, aU, aR, aW, aB, aA, aF, aE) x := by
  unfold wpX_shorten
  exact qx_pat_n hx (br_t rfl h)
theorem qy_grow_t {y : Int32} {post : Int32 → SY → Prop} (hy : y < 0 ∨ nI 7 ≤ y) (h : post (-1) (bS, bT)) : wpY_grow post (bS, bT) y := by
  unfold wpY_grow
  refine br_c (fun _ => h) (fun z => br_t ?_ h)
  rcases hy with w | w
  · exact absurd w z
  · exact qo_8 (a := 6) w (by decide) (by decide)
theorem qy_grow {x : Nat} {post : Int32 → SY → Prop} (hV : qg_V T S) (hH : qg_H T S bS bT) (hx : x < 7) (h1 : ¬ qp_op (T 4) (S 4) = 0 → S 4 < 25 → post (nI (S 4 + 1)) (upd bS 4 (nI (S 4 + 1)), upd bT (25 * 4 + S 4) (nI x))) (h0 : ¬ (¬ qp_op (T 4) (S 4) = 0 ∧ S 4 < 25) → post (-2) (bS, bT)) : wpY_grow post (bS, bT) (nI x) := by
  unfold wpY_grow
  refine br_f (nI_pos (by omega)) (br_f (nI_nlt (a := 6) (b := x) (by omega) (by decide)) ?_)
  exact qy_append (l := 4) (w := 25) hV hH (by decide) (by decide) h1 h0
theorem qx_grow_t {y : Int32} {post : Int32 → SX → Prop} (hy : y < 0 ∨ nI 7 ≤ y) (h : post (-1) (fc, fk, fs, aS, aT, aP, aU, aR, aW, aB, aA, aF, aE)) : wpX_grow post (fc, fk, fs, aS, aT, aP, aU, aR, aW, aB, aA, aF, aE) y := by
  unfold wpX_grow
  refine br_c (fun _ => h) (fun z => br_f ?_ h)
  rcases hy with w | w
  · exact absurd w z
  · exact Int32.not_le.mpr (qo_8 (a := 6) w (by decide) (by decide))
theorem qy_prune {post : Int32 → SY → Prop} (hV : qg_V T S) (hH : qg_H T S bS bT) (h1 : 0 < S 4 → post (nI (T 4 (S 4 - 1))) (upd bS 4 (nI (S 4 - 1)), bT)) (h0 : S 4 = 0 → post (-1) (bS, bT)) : wpY_prune post (bS, bT) := by
  unfold wpY_prune
  exact qy_tookk (l := 4) hV hH (by decide) h1 h0
end QO
end
section
/-- both objects hold the same lists, and what the component has learnt of them is right -/
def i_Rel (k : Nat) (u : SX) (v : SY) : Prop := ∃ T S, qg_V T S ∧ qg_G T S u ∧ qg_H T S v.1 v.2
theorem i_up {k : Nat} {u : SX} {v : SY} (h : i_Rel k u v) : i_Rel (k + 4) u v := h
theorem qo_V0 : qg_V (fun _ _ => 0) (fun _ => 0) := ⟨fun _ _ => Nat.zero_le _, Nat.zero_le _, fun _ _ k hk => absurd hk (Nat.not_lt_zero k), fun k hk => absurd hk (Nat.not_lt_zero k), fun _ _ k hk => absurd hk (Nat.not_lt_zero k)⟩
theorem i_vc0 : wpX_init (fun u => wpY_init (fun v => i_Rel 0 u v)) := by
  show i_Rel 0 (0, 0, 0, (fun _ => 0), (fun _ => 0), (fun _ => 0), (fun _ => 0), (fun _ => 0), (fun _ => 0), (fun _ => 0), (fun _ => 0), (fun _ => 0), (fun _ => 0)) ((fun _ => 0), (fun _ => 0))
  refine ⟨_, _, qo_V0, ?_, ?_⟩
  · exact And.intro ⟨rfl, fun _ _ => rfl, fun _ _ k hk => absurd hk (Nat.not_lt_zero k), fun k hk => absurd hk (Nat.not_lt_zero k)⟩ (fun z => absurd rfl z)
  · exact ⟨fun _ _ => rfl, fun _ _ k hk => absurd hk (Nat.not_lt_zero k)⟩
theorem i_vc_extend {k : Nat} {u : SX} {v : SY} (I : i_Rel k u v) (hk : k + 4 ≤ 2048) (v1 : Int32) (v2 : Int32) : wpX_extend (fun r u' => wpY_extend (fun r' v' => r' = r ∧ i_Rel (k + 4) u' v') v v1 v2) u v1 v2 := by
  have I0 := i_up I
  obtain ⟨T, S, hV, hG, hH⟩ := I
  obtain ⟨fc, fk, fs, aS, aT, aP, aU, aR, aW, aB, aA, aF, aE⟩ := u
  obtain ⟨bS, bT⟩ := v
  rcases pk_ix v1 (n := 4) (by decide) with z | z | ⟨p, hp, rfl⟩
  · exact qx_extend_n (Or.inl z) (qy_extend_n (Or.inl z) ⟨rfl, I0⟩)
  · exact qx_extend_n (Or.inr z) (qy_extend_n (Or.inr z) ⟨rfl, I0⟩)
  · rcases pk_ix v2 (n := 8) (by decide) with z | z | ⟨x, hx, rfl⟩
    · exact qx_extend_t hp (Or.inl z) (qy_extend_t hp (Or.inl z) ⟨rfl, I0⟩)
    · exact qx_extend_t hp (Or.inr z) (qy_extend_t hp (Or.inr z) ⟨rfl, I0⟩)
    · refine qx_extend hV hG.1 hp (by omega) (fun a b => ?_) (fun a => ?_)
      · refine qy_extend hV hH hp hx (fun _ _ => ⟨rfl, ?_⟩) (fun c => absurd ⟨a, b⟩ c)
        exact ⟨_, _, qg_put (x := x) hV (l := p) (by omega) a (fun _ => ⟨b, by omega⟩) (fun e => by omega), And.intro (qx_putB hV hG.1 hp b) (fun e => absurd rfl e), qy_putH hV hH (by omega) (by omega)⟩
      · exact qy_extend hV hH hp hx (fun c d => absurd ⟨c, d⟩ a) (fun _ => ⟨rfl, I0⟩)
theorem i_vc_shorten {k : Nat} {u : SX} {v : SY} (I : i_Rel k u v) (hk : k + 4 ≤ 2048) (v1 : Int32) : wpX_shorten (fun r u' => wpY_shorten (fun r' v' => r' = r ∧ i_Rel (k + 4) u' v') v v1) u v1 := by
  have I0 := i_up I
  obtain ⟨T, S, hV, hG, hH⟩ := I
  obtain ⟨fc, fk, fs, aS, aT, aP, aU, aR, aW, aB, aA, aF, aE⟩ := u
  obtain ⟨bS, bT⟩ := v
  rcases pk_ix v1 (n := 4) (by decide) with z | z | ⟨p, hp, rfl⟩
  · exact qx_shorten_n (Or.inl z) (qy_shorten_n (Or.inl z) ⟨rfl, I0⟩)
  · exact qx_shorten_n (Or.inr z) (qy_shorten_n (Or.inr z) ⟨rfl, I0⟩)
  · refine qx_shorten hV hG.1 hp (fun a => ?_) (fun a => ?_)
    · refine qy_shorten hV hH hp (fun _ => ⟨rfl, ?_⟩) (fun c => by omega)
      exact ⟨_, _, qg_take (l := p) hV, And.intro (qx_takeB hG.1 hp) (fun e => absurd rfl e), qy_takeH hH⟩
    · exact qy_shorten hV hH hp (fun c => by omega) (fun _ => ⟨rfl, I0⟩)
theorem i_vc_grow {k : Nat} {u : SX} {v : SY} (I : i_Rel k u v) (hk : k + 4 ≤ 2048) (v1 : Int32) : wpX_grow (fun r u' => wpY_grow (fun r' v' => r' = r ∧ i_Rel (k + 4) u' v') v v1) u v1 := by
  have I0 := i_up I
  obtain ⟨T, S, hV, hG, hH⟩ := I
  obtain ⟨fc, fk, fs, aS, aT, aP, aU, aR, aW, aB, aA, aF, aE⟩ := u
  obtain ⟨bS, bT⟩ := v
  rcases pk_ix v1 (n := 7) (by decide) with z | z | ⟨x, hx, rfl⟩
  · exact qx_grow_t (Or.inl z) (qy_grow_t (Or.inl z) ⟨rfl, I0⟩)
  · exact qx_grow_t (Or.inr z) (qy_grow_t (Or.inr z) ⟨rfl, I0⟩)
  · refine qx_grow hV hG.1 (by omega) (fun a b => ?_) (fun a => ?_)
    · refine qy_grow hV hH hx (fun _ _ => ⟨rfl, ?_⟩) (fun c => absurd ⟨a, b⟩ c)
      exact ⟨_, _, qg_put (x := x) hV (l := 4) (by decide) a (fun e => absurd e (by decide)) (fun _ => ⟨b, by omega⟩), And.intro (qx_putBs hG.1) (fun e => absurd rfl e), qy_putH hV hH (by decide) b⟩
    · exact qy_grow hV hH hx (fun c d => absurd ⟨c, d⟩ a) (fun _ => ⟨rfl, I0⟩)
theorem i_vc_prune {k : Nat} {u : SX} {v : SY} (I : i_Rel k u v) (hk : k + 4 ≤ 2048) : wpX_prune (fun r u' => wpY_prune (fun r' v' => r' = r ∧ i_Rel (k + 4) u' v') v) u := by
  have I0 := i_up I
  obtain ⟨T, S, hV, hG, hH⟩ := I
  obtain ⟨fc, fk, fs, aS, aT, aP, aU, aR, aW, aB, aA, aF, aE⟩ := u
  obtain ⟨bS, bT⟩ := v
  refine qx_prune hV hG.1 (fun a => ?_) (fun a => ?_)
  · refine qy_prune hV hH (fun _ => ⟨rfl, ?_⟩) (fun c => by omega)
    exact ⟨_, _, qg_take (l := 4) hV, And.intro (qx_takeBs hG.1) (fun e => absurd rfl e), qy_takeH hH⟩
  · exact qy_prune hV hH (fun c => by omega) (fun _ => ⟨rfl, I0⟩)
theorem i_vc_complete {k : Nat} {u : SX} {v : SY} (I : i_Rel k u v) (hk : k + 4 ≤ 2048) (v1 : Int32) : wpX_complete (fun r => wpY_complete (fun r' => r' = r ∧ i_Rel (k + 4) u v) v v1) u v1 := by
  have I0 := i_up I
  obtain ⟨T, S, hV, hG, hH⟩ := I
  obtain ⟨fc, fk, fs, aS, aT, aP, aU, aR, aW, aB, aA, aF, aE⟩ := u
  obtain ⟨bS, bT⟩ := v
  rcases pk_ix v1 (n := 4) (by decide) with z | z | ⟨p, hp, rfl⟩
  · exact qx_complete_n (Or.inl z) (qy_complete_n (Or.inl z) ⟨rfl, I0⟩)
  · exact qx_complete_n (Or.inr z) (qy_complete_n (Or.inr z) ⟨rfl, I0⟩)
  · exact qx_complete hV hG.1 hp (fun a => qy_complete hV hH hp (fun _ => ⟨rfl, I0⟩) (fun c => absurd a c)) (fun a => qy_complete hV hH hp (fun c => absurd c a) (fun _ => ⟨rfl, I0⟩))
theorem i_vc_whole {k : Nat} {u : SX} {v : SY} (I : i_Rel k u v) (hk : k + 4 ≤ 2048) : wpX_whole (fun r => wpY_whole (fun r' => r' = r ∧ i_Rel (k + 4) u v) v) u := by
  have I0 := i_up I
  obtain ⟨T, S, hV, hG, hH⟩ := I
  obtain ⟨fc, fk, fs, aS, aT, aP, aU, aR, aW, aB, aA, aF, aE⟩ := u
  obtain ⟨bS, bT⟩ := v
  exact qx_whole hV hG.1 (fun a => qy_whole hV hH (fun _ => ⟨rfl, I0⟩) (fun c => absurd a c)) (fun a => qy_whole hV hH (fun c => absurd c a) (fun _ => ⟨rfl, I0⟩))
theorem i_vc_fitsAt {k : Nat} {u : SX} {v : SY} (I : i_Rel k u v) (hk : k + 4 ≤ 2048) (v1 : Int32) : wpX_fitsAt (fun r u' => wpY_fitsAt (fun r' => r' = r ∧ i_Rel (k + 4) u' v) v v1) u v1 := by
  have I0 := i_up I
  obtain ⟨T, S, hV, hG, hH⟩ := I
  obtain ⟨fc, fk, fs, aS, aT, aP, aU, aR, aW, aB, aA, aF, aE⟩ := u
  obtain ⟨bS, bT⟩ := v
  by_cases z : v1 < 0
  · exact qx_fitsAt_neg z (qy_fitsAt_neg hV hH z ⟨rfl, I0⟩)
  · obtain ⟨n, hn, rfl⟩ := nI_of z
    refine qx_fitsAt hV hG hn ?_
    intro fk' fs' aP' aR' aW' aB' aA' aF' aE' _ g
    exact qy_fitsAt hV hH hn ⟨rfl, T, S, hV, g, hH⟩
theorem i_vc_count {k : Nat} {u : SX} {v : SY} (I : i_Rel k u v) (hk : k + 4 ≤ 2048) (v1 : Int32) : wpX_count (fun r u' => wpY_count (fun r' => r' = r ∧ i_Rel (k + 4) u' v) v v1) u v1 := by
  have I0 := i_up I
  obtain ⟨T, S, hV, hG, hH⟩ := I
  obtain ⟨fc, fk, fs, aS, aT, aP, aU, aR, aW, aB, aA, aF, aE⟩ := u
  obtain ⟨bS, bT⟩ := v
  rcases pk_ix v1 (n := 4) (by decide) with z | z | ⟨p, hp, rfl⟩
  · exact qx_count_n (Or.inl z) (qy_count_n (Or.inl z) ⟨rfl, I0⟩)
  · exact qx_count_n (Or.inr z) (qy_count_n (Or.inr z) ⟨rfl, I0⟩)
  · refine qx_count hV hG hp (fun u g => qy_count hV hH hp ⟨?_, T, S, hV, g, hH⟩)
    have hS := hV.2.1
    have e := qz_cn_x (f := qg_fb T S p) (s := S 4) (fun n hn => qg_fb_f (fun y => by omega)) (25 - S 4)
    rw [show S 4 + (25 - S 4) = 25 by omega] at e
    rw [e]
theorem i_vc_next {k : Nat} {u : SX} {v : SY} (I : i_Rel k u v) (hk : k + 4 ≤ 2048) (v1 : Int32) (v2 : Int32) : wpX_next (fun r u' => wpY_next (fun r' => r' = r ∧ i_Rel (k + 4) u' v) v v1 v2) u v1 v2 := by
  have I0 := i_up I
  obtain ⟨T, S, hV, hG, hH⟩ := I
  obtain ⟨fc, fk, fs, aS, aT, aP, aU, aR, aW, aB, aA, aF, aE⟩ := u
  obtain ⟨bS, bT⟩ := v
  have hS := hV.2.1
  rcases pk_ix v1 (n := 4) (by decide) with z | z | ⟨p, hp, rfl⟩
  · exact qx_next_n (Or.inl z) (qy_next_n (Or.inl z) ⟨rfl, I0⟩)
  · exact qx_next_n (Or.inr z) (qy_next_n (Or.inr z) ⟨rfl, I0⟩)
  · have e : ∀ n, qz_nx (qg_fb T S p) (25 - n) n = qz_nx (qg_fb T S p) (S 4 - n) n := fun n => qz_nx_x (fun m hm => qg_fb_f (fun y => by omega)) (25 - n) n (by omega)
    by_cases z : v2 < 0
    · refine qx_next_neg hV hG hp z (fun u g => qy_next (s := 0) hV hH hp (fun j hj => ⟨fun y => ?_, fun y => absurd y (Nat.not_lt_zero j)⟩) ⟨e 0, T, S, hV, g, hH⟩)
      exact absurd (Int32.lt_trans y z) (nI_pos (by omega))
    · obtain ⟨n, hn, rfl⟩ := nI_of z
      exact qx_next hV hG hp hn (fun u g => qy_next (s := n) hV hH hp (fun j hj => nI_ltI (by omega) hn) ⟨e n, T, S, hV, g, hH⟩)
theorem i_vc_gapAt {k : Nat} {u : SX} {v : SY} (I : i_Rel k u v) (hk : k + 4 ≤ 2048) (v1 : Int32) (v2 : Int32) (v3 : Int32) : wpX_gapAt (fun r u' => wpY_gapAt (fun r' => r' = r ∧ i_Rel (k + 4) u' v) v v1 v2 v3) u v1 v2 v3 := by
  have I0 := i_up I
  obtain ⟨T, S, hV, hG, hH⟩ := I
  obtain ⟨fc, fk, fs, aS, aT, aP, aU, aR, aW, aB, aA, aF, aE⟩ := u
  obtain ⟨bS, bT⟩ := v
  rcases pk_ix v1 (n := 4) (by decide) with z | z | ⟨p, hp, rfl⟩
  · exact qx_gapAt_n (Or.inl z) (qy_gapAt_n (Or.inl z) ⟨rfl, I0⟩)
  · exact qx_gapAt_n (Or.inr z) (qy_gapAt_n (Or.inr z) ⟨rfl, I0⟩)
  · by_cases z : v2 < 0
    · exact qx_gapAt_neg hp z (qy_gapAt_neg hV hH hp z ⟨rfl, I0⟩)
    · obtain ⟨n, hn, rfl⟩ := nI_of z
      refine qx_gapAt hV hG hp hn (fun a u g => qy_gapAt hV hH hp hn (fun _ => ⟨rfl, T, S, hV, g, hH⟩) (fun c => ?_)) (fun a u g => qy_gapAt hV hH hp hn (fun c => ?_) (fun _ => ⟨rfl, T, S, hV, g, hH⟩))
      · rw [a] at c; exact absurd c (by decide)
      · rw [a] at c; exact absurd c (by decide)
theorem i_vc_size {k : Nat} {u : SX} {v : SY} (I : i_Rel k u v) (hk : k + 4 ≤ 2048) (v1 : Int32) : wpX_size (fun r u' => wpY_size (fun r' => r' = r ∧ i_Rel (k + 4) u' v) v v1) u v1 := by
  have I0 := i_up I
  obtain ⟨T, S, hV, hG, hH⟩ := I
  obtain ⟨fc, fk, fs, aS, aT, aP, aU, aR, aW, aB, aA, aF, aE⟩ := u
  obtain ⟨bS, bT⟩ := v
  by_cases z : v1 < 0
  · exact qx_size_neg z (qy_size_neg hV hH z ⟨rfl, I0⟩)
  · obtain ⟨n, hn, rfl⟩ := nI_of z
    exact qx_size hV hG hn (fun a b u g => qy_size hV hH hn (fun _ _ => ⟨rfl, T, S, hV, g, hH⟩) (fun c => absurd ⟨a, b⟩ c)) (fun a => qy_size hV hH hn (fun c d => absurd ⟨c, d⟩ a) (fun _ => ⟨rfl, I0⟩))
theorem i_vc_equal {k : Nat} {u : SX} {v : SY} (I : i_Rel k u v) (hk : k + 4 ≤ 2048) (v1 : Int32) (v2 : Int32) : wpX_equal (fun r u' => wpY_equal (fun r' => r' = r ∧ i_Rel (k + 4) u' v) v v1 v2) u v1 v2 := by
  have I0 := i_up I
  obtain ⟨T, S, hV, hG, hH⟩ := I
  obtain ⟨fc, fk, fs, aS, aT, aP, aU, aR, aW, aB, aA, aF, aE⟩ := u
  obtain ⟨bS, bT⟩ := v
  by_cases z : v1 < 0
  · exact qx_equal_n1 z (qy_equal_n1 hV hH z ⟨rfl, I0⟩)
  · obtain ⟨m, hm, rfl⟩ := nI_of z
    by_cases y : v2 < 0
    · exact qx_equal_n2 hV hG hm y (fun u g => qy_equal_n2 hV hH hm y ⟨rfl, T, S, hV, g, hH⟩)
    · obtain ⟨n, hn, rfl⟩ := nI_of y
      exact qx_equal hV hG hm hn (fun a b c d u g => qy_equal hV hH hm hn (fun _ _ _ _ => ⟨rfl, T, S, hV, g, hH⟩) (fun e => absurd ⟨a, b, c, d⟩ e)) (fun e u g => qy_equal hV hH hm hn (fun a b c d => absurd ⟨a, b, c, d⟩ e) (fun _ => ⟨rfl, T, S, hV, g, hH⟩))
theorem i_vc_kinds {k : Nat} {u : SX} {v : SY} (I : i_Rel k u v) (hk : k + 4 ≤ 2048) : wpX_kinds (fun r u' => wpY_kinds (fun r' => r' = r ∧ i_Rel (k + 4) u' v) v) u := by
  obtain ⟨T, S, hV, hG, hH⟩ := I
  obtain ⟨fc, fk, fs, aS, aT, aP, aU, aR, aW, aB, aA, aF, aE⟩ := u
  obtain ⟨bS, bT⟩ := v
  exact qx_kinds hV hG (fun u g => qy_kinds hV hH ⟨rfl, T, S, hV, g, hH⟩)
theorem i_vc_covers {k : Nat} {u : SX} {v : SY} (I : i_Rel k u v) (hk : k + 4 ≤ 2048) (v1 : Int32) (v2 : Int32) : wpX_covers (fun r u' => wpY_covers (fun r' => r' = r ∧ i_Rel (k + 4) u' v) v v1 v2) u v1 v2 := by
  have I0 := i_up I
  obtain ⟨T, S, hV, hG, hH⟩ := I
  obtain ⟨fc, fk, fs, aS, aT, aP, aU, aR, aW, aB, aA, aF, aE⟩ := u
  obtain ⟨bS, bT⟩ := v
  rcases pk_ix v1 (n := 4) (by decide) with z | z | ⟨p, hp, rfl⟩
  · exact qx_covers_n1 (Or.inl z) (qy_covers_n1 (Or.inl z) ⟨rfl, I0⟩)
  · exact qx_covers_n1 (Or.inr z) (qy_covers_n1 (Or.inr z) ⟨rfl, I0⟩)
  · rcases pk_ix v2 (n := 4) (by decide) with z | z | ⟨q, hq, rfl⟩
    · exact qx_covers_n2 hV hG hp (Or.inl z) (qy_covers_n2 hV hH hp (Or.inl z) ⟨rfl, I0⟩)
    · exact qx_covers_n2 hV hG hp (Or.inr z) (qy_covers_n2 hV hH hp (Or.inr z) ⟨rfl, I0⟩)
    · exact qx_covers hV hG hp hq (fun a b c u g => qy_covers hV hH hp hq (fun _ _ _ => ⟨rfl, T, S, hV, g, hH⟩) (fun e => absurd ⟨a, b, c⟩ e)) (fun e u g => qy_covers hV hH hp hq (fun a b c => absurd ⟨a, b, c⟩ e) (fun _ => ⟨rfl, T, S, hV, g, hH⟩))
theorem i_vc_bare {k : Nat} {u : SX} {v : SY} (I : i_Rel k u v) (hk : k + 4 ≤ 2048) : wpX_bare (fun r u' => wpY_bare (fun r' => r' = r ∧ i_Rel (k + 4) u' v) v) u := by
  obtain ⟨T, S, hV, hG, hH⟩ := I
  obtain ⟨fc, fk, fs, aS, aT, aP, aU, aR, aW, aB, aA, aF, aE⟩ := u
  obtain ⟨bS, bT⟩ := v
  refine qx_bare hV hG (fun u g => qy_bare hV hH ⟨?_, T, S, hV, g, hH⟩)
  have hS := hV.2.1
  have e := qz_cn_x (f := qg_kd T S 0) (s := S 4) (fun n hn => decide_eq_false (fun y => by omega)) (25 - S 4)
  rw [show S 4 + (25 - S 4) = 25 by omega] at e
  rw [e]
end
