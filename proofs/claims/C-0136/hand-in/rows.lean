section
/-! rows pasted from kit/rows (PURE-ROWS: pk_us .. pk_shrN; BITS: the family bt) -/
theorem pk_us {f : Nat → Int32} {k : Nat} {x : Int32} : upd f k x k = x := if_pos rfl
theorem pk_un {f : Nat → Int32} {k j : Nat} {x : Int32} (h : j ≠ k) : upd f k x j = f j := if_neg h
theorem pk_sub {a b : Nat} (h : b ≤ a) : nI a - nI b = nI (a - b) := by
  obtain ⟨c, rfl⟩ : ∃ c, a = c + b := ⟨a - b, by omega⟩
  rw [← nI_add, Int32.add_sub_cancel, Nat.add_sub_cancel]
theorem pk_m1 (n : Nat) : nI (n + 1) + (-1) = nI n := by
  rw [← nI_1, Int32.add_assoc, show (1 : Int32) + (-1) = 0 from rfl, Int32.add_zero]
theorem pk_mul (a b : Nat) : nI a * nI b = nI (a * b) := (Int32.ofNat_mul a b).symm
theorem pk_div {a d : Nat} (ha : a < 2 ^ 31) (h0 : 0 < d) (hd : d < 2 ^ 31) : nI a / nI d = nI (a / d) := by
  apply Int32.toInt_inj.mp
  rw [lg_idiv_nonneg (by rw [nI_toInt ha]; omega) (by rw [nI_toInt hd]; omega), nI_toInt ha, nI_toInt hd, nI_toInt (Nat.lt_of_le_of_lt (Nat.div_le_self a d) ha)]
  first | rfl | exact (Int.natCast_ediv _ _).symm
theorem pk_rem {a d : Nat} (ha : a < 2 ^ 31) (h0 : 0 < d) (hd : d < 2 ^ 31) : nI a - nI a / nI d * nI d = nI (a % d) := by
  rw [pk_div ha h0 hd, pk_mul, pk_sub (Nat.div_mul_le_self a d)]
  exact congrArg nI (by have := Nat.div_add_mod' a d; omega)
theorem pk_sub_toInt {a b : Nat} (ha : a < 2 ^ 30) (hb : b < 2 ^ 30) : (nI a - nI b).toInt = (a : Int) - b := by
  rw [Int32.toInt_sub, nI_toInt (by omega), nI_toInt (by omega)]
  exact Int.bmod_eq_of_le (by omega) (by omega)
theorem pk_sneg {a b : Nat} (hb : b < 2 ^ 30) (h : a < b) : nI a - nI b < 0 := by
  rw [Int32.lt_iff_toInt_lt, pk_sub_toInt (by omega) hb, show (0 : Int32).toInt = 0 from by decide]
  omega
theorem pk_ix (x : Int32) {n : Nat} (hn : n < 2 ^ 31) : x < 0 ∨ nI n ≤ x ∨ ∃ j : Nat, j < n ∧ x = nI j := by
  by_cases h : x < 0
  · exact Or.inl h
  · obtain ⟨j, hj, rfl⟩ := nI_of h
    by_cases h2 : j < n
    · exact Or.inr (Or.inr ⟨j, h2, rfl⟩)
    · exact Or.inr (Or.inl (nI_le (by omega) hj))
theorem pk_le {x y : Int32} {A B : Prop} (a b : Nat) (f : a ≤ b → A) (g : b < a → B) (hx : x = nI a := by rfl) (hy : y = nI b := by rfl) (ha : a < 2 ^ 31 := by omega) (hb : b < 2 ^ 31 := by omega) : (x ≤ y → A) ∧ (¬ x ≤ y → B) := by
  subst hx hy
  rw [nI_leI ha hb]
  exact ⟨f, fun z => g (by omega)⟩
theorem pk_lt {x y : Int32} {A B : Prop} (a b : Nat) (f : a < b → A) (g : b ≤ a → B) (hx : x = nI a := by rfl) (hy : y = nI b := by rfl) (ha : a < 2 ^ 31 := by omega) (hb : b < 2 ^ 31 := by omega) : (x < y → A) ∧ (¬ x < y → B) := by
  subst hx hy
  rw [nI_ltI ha hb]
  exact ⟨f, fun z => g (by omega)⟩
theorem pk_eq {x y : Int32} {A B : Prop} (a b : Nat) (f : a = b → A) (g : a ≠ b → B) (hx : x = nI a := by rfl) (hy : y = nI b := by rfl) (ha : a < 2 ^ 31 := by omega) (hb : b < 2 ^ 31 := by omega) : (x = y → A) ∧ (¬ x = y → B) := by
  subst hx hy
  rw [nI_eq ha hb]
  exact ⟨f, g⟩
theorem pk_in {x : Int32} (n N : Nat) (h : n < N) (hx : x = nI n := by rfl) (hN : N < 2 ^ 31 := by omega) : vp_in x N := by
  subst hx
  exact vp_in_nI h hN
theorem pk_cl {x : Int32} (n : Nat) (hx : x = nI n := by rfl) (h : n < 2 ^ 31 := by omega) : x.toNatClampNeg = n := by
  subst hx
  exact nI_clamp h
theorem pk_tn {n : Nat} (h : n < 2 ^ 32) : (nI n).toBitVec.toNat = n := Nat.mod_eq_of_lt h
theorem pk_and (x : Int32) {m : Int32} (k : Nat) (hm : m.toBitVec.toNat = 2 ^ k - 1) : x &&& m = nI (x.toBitVec.toNat % 2 ^ k) := by
  apply Int32.toBitVec_inj.mp
  apply BitVec.eq_of_toNat_eq
  rw [Int32.toBitVec_and, BitVec.toNat_and, hm, Nat.and_two_pow_sub_one_eq_mod]
  show _ = (BitVec.ofNat 32 _).toNat
  rw [BitVec.toNat_ofNat]
  exact (Nat.mod_eq_of_lt (Nat.lt_of_le_of_lt (Nat.mod_le _ _) x.toBitVec.isLt)).symm
theorem pk_andN {n : Nat} (h : n < 2 ^ 32) {m : Int32} (k : Nat) (hm : m.toBitVec.toNat = 2 ^ k - 1) : nI n &&& m = nI (n % 2 ^ k) := by
  rw [pk_and _ k hm, pk_tn h]
theorem pk_andE (x : Int32) {m : Int32} (k : Nat) (hm : m.toBitVec.toNat = 2 ^ k - 1) : ∃ j : Nat, j < 2 ^ k ∧ x &&& m = nI j := ⟨_, Nat.mod_lt _ (Nat.two_pow_pos k), pk_and x k hm⟩
theorem pk_andIn (x : Int32) {m : Int32} (k : Nat) (hm : m.toBitVec.toNat = 2 ^ k - 1) (hk : k ≤ 30) : vp_in (x &&& m) (2 ^ k) := by
  obtain ⟨j, hj, e⟩ := pk_andE x k hm
  rw [e]
  exact vp_in_nI hj (Nat.lt_of_le_of_lt (Nat.pow_le_pow_right (by decide) hk) (by decide))
theorem pk_shl (a s : Int32) (k : Nat) (hs : (s.toBitVec.smod 32).toNat = k) : (a <<< s).toBitVec.toNat = a.toBitVec.toNat * 2 ^ k % 2 ^ 32 := by
  show (a.toBitVec <<< (s.toBitVec.smod 32).toNat).toNat = _
  rw [hs, BitVec.toNat_shiftLeft, Nat.shiftLeft_eq]
theorem pk_shlN {n : Nat} (s : Int32) (k : Nat) (hs : (s.toBitVec.smod 32).toNat = k) (h : n * 2 ^ k < 2 ^ 32) : nI n <<< s = nI (n * 2 ^ k) := by
  apply Int32.toBitVec_inj.mp
  apply BitVec.eq_of_toNat_eq
  have hn : n < 2 ^ 32 := Nat.lt_of_le_of_lt (Nat.le_mul_of_pos_right n (Nat.two_pow_pos k)) h
  rw [pk_shl _ _ k hs, pk_tn hn, pk_tn h, Nat.mod_eq_of_lt h]
theorem pk_shr (a s : Int32) (k : Nat) (hs : (s.toBitVec.smod 32).toNat = k) : (a >>> s).toInt = a.toInt >>> k := by
  show (a.toBitVec.sshiftRight (s.toBitVec.smod 32).toNat).toInt = _
  rw [hs, BitVec.toInt_sshiftRight]
  rfl
theorem pk_shrN {n : Nat} (h : n < 2 ^ 31) (s : Int32) (k : Nat) (hs : (s.toBitVec.smod 32).toNat = k) : nI n >>> s = nI (n / 2 ^ k) := by
  apply Int32.toInt_inj.mp
  have h2 : n / 2 ^ k ≤ n := Nat.div_le_self _ _
  rw [pk_shr _ _ k hs, nI_toInt h, nI_toInt (by omega), Int.shiftRight_eq_div_pow]
  rfl
theorem pk_ushr (x s : Int32) (k : Nat) (hs : ((s.toUInt32 &&& Int32.toUInt32 31).toBitVec % 32).toNat = k) : (x.toUInt32 >>> (s.toUInt32 &&& Int32.toUInt32 31)).toInt32.toBitVec.toNat = x.toBitVec.toNat / 2 ^ k := by
  have e : (x.toUInt32 >>> (s.toUInt32 &&& Int32.toUInt32 31)).toInt32.toBitVec = x.toBitVec >>> k := by
    rw [← hs]
    exact UInt32.toBitVec_shiftRight _ _
  rw [e, BitVec.toNat_ushiftRight, Nat.shiftRight_eq_div_pow]
theorem pk_ushrN {n : Nat} (hn : n < 2 ^ 32) (s : Int32) (k : Nat) (hs : ((s.toUInt32 &&& Int32.toUInt32 31).toBitVec % 32).toNat = k) : ((nI n).toUInt32 >>> (s.toUInt32 &&& Int32.toUInt32 31)).toInt32 = nI (n / 2 ^ k) := by
  apply Int32.toBitVec_inj.mp
  apply BitVec.eq_of_toNat_eq
  rw [pk_ushr _ s k hs, pk_tn hn, pk_tn (Nat.lt_of_le_of_lt (Nat.div_le_self _ _) hn)]
/-! ===== Int32 by its bits: bt x i ===== -/
def bt (x : Int32) (i : Nat) : Bool := x.toBitVec.getLsbD i
theorem b_ext {x y : Int32} (h : ∀ i, i < 32 → bt x i = bt y i) : x = y := Int32.toBitVec_inj.mp (BitVec.eq_of_getLsbD_eq (fun i hi => h i hi))
theorem b_or (x y : Int32) (i : Nat) : bt (x ||| y) i = (bt x i || bt y i) := by unfold bt; rw [Int32.toBitVec_or, BitVec.getLsbD_or]
theorem b_and (x y : Int32) (i : Nat) : bt (x &&& y) i = (bt x i && bt y i) := by unfold bt; rw [Int32.toBitVec_and, BitVec.getLsbD_and]
theorem b_xor (x y : Int32) (i : Nat) : bt (x ^^^ y) i = (bt x i ^^ bt y i) := by unfold bt; rw [Int32.toBitVec_xor, BitVec.getLsbD_xor]
theorem b_big {x : Int32} {i : Nat} (h : 32 ≤ i) : bt x i = false := BitVec.getLsbD_of_ge _ _ h
theorem b_255 (i : Nat) : bt 255 i = decide (i < 8) := by
  rcases Nat.lt_or_ge i 32 with h | h
  · exact (by decide +kernel : ∀ i, i < 32 → bt 255 i = decide (i < 8)) i h
  · rw [b_big h, decide_eq_false (by omega)]
theorem b_65535 (i : Nat) : bt 65535 i = decide (i < 16) := by
  rcases Nat.lt_or_ge i 32 with h | h
  · exact (by decide +kernel : ∀ i, i < 32 → bt 65535 i = decide (i < 16)) i h
  · rw [b_big h, decide_eq_false (by omega)]
theorem b_m1 : ∀ i, i < 32 → bt (-1) i = true := by decide +kernel
theorem b_0 (i : Nat) : bt 0 i = false := BitVec.getLsbD_zero
theorem s_l : ∀ n, n < 32 → ((nI n &&& 31).toBitVec.smod 32).toNat = n := by decide +kernel
theorem s_u : ∀ n, n < 32 → (((nI n).toUInt32 &&& Int32.toUInt32 31).toBitVec % 32).toNat = n := by decide +kernel
theorem b_shl (n : Nat) (hn : n < 32) (x : Int32) {i : Nat} (hi : i < 32) : bt (x <<< (nI n &&& 31)) i = (decide (n ≤ i) && bt x (i - n)) := by
  unfold bt
  rw [Int32.toBitVec_shiftLeft]
  show (x.toBitVec <<< ((nI n &&& 31).toBitVec.smod 32).toNat).getLsbD i = _
  rw [s_l n hn, BitVec.getLsbD_shiftLeft]
  rcases Nat.lt_or_ge i n with h | h
  · simp [h, Nat.not_le.mpr h]
  · simp [hi, h, Nat.not_lt.mpr h]
theorem b_ushr (n : Nat) (hn : n < 32) (x : Int32) (i : Nat) : bt ((x.toUInt32 >>> ((nI n).toUInt32 &&& Int32.toUInt32 31)).toInt32) i = bt x (n + i) := by
  show (x.toUInt32 >>> ((nI n).toUInt32 &&& Int32.toUInt32 31)).toBitVec.getLsbD i = x.toUInt32.toBitVec.getLsbD (n + i)
  rw [UInt32.toBitVec_shiftRight]
  show (x.toUInt32.toBitVec >>> (((nI n).toUInt32 &&& Int32.toUInt32 31).toBitVec % 32).toNat).getLsbD i = _
  rw [s_u n hn, BitVec.getLsbD_ushiftRight]
theorem b_sshr (n : Nat) (hn : n < 32) (x : Int32) {i : Nat} (hi : i < 32) : bt (x >>> (nI n &&& 31)) i = if n + i < 32 then bt x (n + i) else bt x 31 := by
  unfold bt
  rw [Int32.toBitVec_shiftRight]
  show (x.toBitVec.sshiftRight ((nI n &&& 31).toBitVec.smod 32).toNat).getLsbD i = _
  rw [s_l n hn, BitVec.getLsbD_sshiftRight, BitVec.msb_eq_getLsbD_last]
  simp [hi]
end
section
/-! bits of an Int32, and the words of at most four letters by their numbers -/
theorem zb_1 (i : Nat) : bt 1 i = decide (i = 0) := by
  rcases Nat.lt_or_ge i 32 with h | h
  · exact (by decide +kernel : ∀ i, i < 32 → bt 1 i = decide (i = 0)) i h
  · rw [b_big h, decide_eq_false (by omega)]
theorem zb_512 (i : Nat) : bt 512 i = decide (i = 9) := by
  rcases Nat.lt_or_ge i 32 with h | h
  · exact (by decide +kernel : ∀ i, i < 32 → bt 512 i = decide (i = 9)) i h
  · rw [b_big h, decide_eq_false (by omega)]
theorem zb_bit (x : Int32) (v : Nat) (hv : v < 32) : ((x >>> (nI v &&& 31)) &&& 1) = if bt x v = true then 1 else 0 := by
  apply b_ext
  intro i hi
  rw [b_and, b_sshr v hv x hi, zb_1]
  by_cases h0 : i = 0
  · subst h0
    rw [if_pos (show v + 0 < 32 by omega), Nat.add_zero]
    cases bt x v <;> decide
  · rw [decide_eq_false h0, Bool.and_false]
    cases bt x v with
    | false => exact (b_0 i).symm
    | true =>
      rw [if_pos rfl, zb_1, decide_eq_false h0]
theorem zb_bitI {x : Int32} {v : Nat} (hv : v < 32) : ((x >>> (nI v &&& 31)) &&& 1) = 1 ↔ bt x v = true := by
  rw [zb_bit x v hv]
  cases bt x v <;> decide
theorem zb_one (n : Nat) (hn : n < 32) (i : Nat) : bt ((1 : Int32) <<< (nI n &&& 31)) i = decide (i = n) := by
  rcases Nat.lt_or_ge i 32 with h | h
  · rw [b_shl n hn 1 h, zb_1]
    by_cases e : i = n
    · subst e
      simp
    · rw [decide_eq_false e]
      by_cases h2 : n ≤ i
      · rw [decide_eq_false (show ¬ i - n = 0 by omega), Bool.and_false]
      · rw [decide_eq_false h2, Bool.false_and]
  · rw [b_big h, decide_eq_false (by omega)]
theorem zb_orT {x y : Int32} {i : Nat} : bt (x ||| y) i = true ↔ bt x i = true ∨ bt y i = true := by rw [b_or, Bool.or_eq_true]
theorem zb_andT {x y : Int32} {i : Nat} : bt (x &&& y) i = true ↔ bt x i = true ∧ bt y i = true := by rw [b_and, Bool.and_eq_true]
theorem zb_0T {i : Nat} : ¬ bt 0 i = true := by
  rw [b_0]
  exact Bool.false_ne_true
theorem zb_oneT {n i : Nat} (hn : n < 32) : bt ((1 : Int32) <<< (nI n &&& 31)) i = true ↔ i = n := by
  rw [zb_one n hn]
  exact decide_eq_true_iff
theorem zb_512T {i : Nat} : bt 512 i = true ↔ i = 9 := by
  rw [zb_512]
  exact decide_eq_true_iff
theorem zb_and0 {x y : Int32} : (x &&& y) = 0 ↔ ∀ i, ¬ (bt x i = true ∧ bt y i = true) := by
  constructor
  · intro h i hi
    have t := zb_andT.mpr hi
    rw [h] at t
    exact zb_0T t
  · intro h
    apply b_ext
    intro i _
    rw [b_0]
    cases e : bt (x &&& y) i with
    | false => rfl
    | true => exact absurd (zb_andT.mp e) (h i)
theorem zb_512z {x : Int32} : (x &&& 512) = 0 ↔ ¬ bt x 9 = true := by
  rw [zb_and0]
  constructor
  · intro h h9
    exact h 9 ⟨h9, zb_512T.mpr rfl⟩
  · intro h i hi
    have e := zb_512T.mp hi.2
    subst e
    exact h hi.1
theorem zb_lt {x : Int32} {i : Nat} (h : bt x i = true) : i < 32 := by
  rcases Nat.lt_or_ge i 32 with z | z
  · exact z
  · rw [b_big z] at h
    exact absurd h Bool.false_ne_true
def zw_F : Nat → Nat → List Nat
  | 0, _ => []
  | n + 1, w => if w = 0 then [] else zw_F n ((w - 1) / 2) ++ [(w - 1) % 2]
def zw_w (w : Nat) : List Nat := zw_F 5 w
def zw_l (w : Nat) : Nat := (zw_w w).length
def zw_n (l : List Nat) : Nat := l.foldl (fun a b => 2 * a + 1 + b) 0
def zw_h (w p : Nat) : Nat := zw_n ((zw_w w).take p)
def zw_t (w p : Nat) : Nat := zw_n ((zw_w w).drop p)
/-- letter i (1 is the first) of word w -/
def zw_c (w i : Nat) : Nat := (w + 1) / 2 ^ (zw_l w - i) % 2
theorem zw_hd : ∀ w, w < 31 → ∀ p, p < 5 → (zw_w (zw_h w p) = (zw_w w).take p ∧ zw_h w p < 31) := by decide +kernel
theorem zw_tl : ∀ w, w < 31 → ∀ p, p < 5 → (zw_w (zw_t w p) = (zw_w w).drop p ∧ zw_t w p < 31) := by decide +kernel
theorem zw_less : ∀ w, w < 31 → ∀ p, p < 5 → (zw_t w p ≤ w ∧ (p ≤ zw_l w → 0 < p → zw_t w p < w)) := by decide +kernel
theorem zw_len : ∀ w, w < 31 → (zw_l w ≤ 4 ∧ zw_n (zw_w w) = w) := by decide +kernel
theorem zw_snoc : ∀ v, v < 31 → 0 < v → zw_w v = zw_w ((v - 1) / 2) ++ [(v - 1) % 2] := by decide +kernel
theorem zw_one : ∀ x, x < 2 → zw_w (1 + x) = [x] := by decide +kernel
theorem zw_0 : zw_w 0 = [] := rfl
theorem zw_let : ∀ u, u < 31 → ∀ i, i < 4 → i < zw_l u → (zw_w u).take (i + 1) = (zw_w u).take i ++ [zw_c u (i + 1)] := by decide +kernel
theorem zw_c2 (u i : Nat) : zw_c u i < 2 := Nat.mod_lt _ (by decide)
theorem zw_inj {u v : Nat} (hu : u < 31) (hv : v < 31) (h : zw_w u = zw_w v) : u = v := by
  rw [← (zw_len u hu).2, ← (zw_len v hv).2, h]
theorem zw_nil {w : Nat} (hw : w < 31) (h : zw_w w = []) : w = 0 := zw_inj hw (by decide) (h.trans zw_0.symm)
theorem zw_le4 {w : Nat} (hw : w < 31) : zw_l w ≤ 4 := (zw_len w hw).1
theorem zw_l1 : ∀ w, w < 31 → ∀ j, j < 4 → ((w < 2 ^ (j + 1) - 1 → zw_l w ≤ j) ∧ (¬ w < 2 ^ (j + 1) - 1 → j < zw_l w)) := by decide +kernel
theorem zw_l2 : ∀ j, j < 4 → ((1 : Int32) <<< ((nI j + 1) &&& 31)) - 1 = nI (2 ^ (j + 1) - 1) := by decide +kernel
theorem zw_hv : ∀ w, w < 31 → ∀ p, p < 5 → p ≤ zw_l w → (((1 : Int32) <<< (nI p &&& 31)) - 1) + ((nI w - (((1 : Int32) <<< (nI (zw_l w) &&& 31)) - 1)) >>> ((nI (zw_l w) - nI p) &&& 31)) = nI (zw_h w p) := by decide +kernel
theorem zw_tv : ∀ w, w < 31 → ∀ p, p < 5 → p ≤ zw_l w → (((1 : Int32) <<< ((nI (zw_l w) - nI p) &&& 31)) - 1) + ((nI w - (((1 : Int32) <<< (nI (zw_l w) &&& 31)) - 1)) &&& (((1 : Int32) <<< ((nI (zw_l w) - nI p) &&& 31)) - 1)) = nI (zw_t w p) := by decide +kernel
theorem zw_cv : ∀ w, w < 31 → ∀ i, i < 5 → i ≤ zw_l w → (((nI w + 1) >>> ((nI (zw_l w) - nI i) &&& 31)) &&& 1) = nI (zw_c w i) := by decide +kernel
theorem zw_up : ∀ w, w < 31 → 0 < w → (zw_l w = zw_l ((w - 1) / 2) + 1) := by decide +kernel
end
section
/-! lists of places: paths through first, follow, last, and the pairs of words that they spell -/
def zg_p (L : Nat → Prop) (fo : Nat → Nat → Prop) : Nat → List Nat → Prop
  | p, [] => L p
  | p, q :: l => fo p q ∧ zg_p L fo q l
def zg_a (E : Prop) (F L : Nat → Prop) (fo : Nat → Nat → Prop) : List Nat → Prop
  | [] => E
  | p :: l => F p ∧ zg_p L fo p l
def zg_l (x : Nat) : List Nat := if x < 2 then [x] else []
def zg_w (t : Nat → Nat) : List Nat → List Nat
  | [] => []
  | p :: l => zg_l (t p) ++ zg_w t l
/-- the pair (u, v) is spelt by a path -/
def zg_A (E : Prop) (F L : Nat → Prop) (fo : Nat → Nat → Prop) (tx ty : Nat → Nat) (u v : List Nat) : Prop :=
  ∃ l : List Nat, zg_a E F L fo l ∧ zg_w tx l = u ∧ zg_w ty l = v
theorem zg_w_app (t : Nat → Nat) : ∀ a b : List Nat, zg_w t (a ++ b) = zg_w t a ++ zg_w t b := by
  intro a b
  induction a with
  | nil => rfl
  | cons p a ih =>
    show zg_l (t p) ++ zg_w t (a ++ b) = (zg_l (t p) ++ zg_w t a) ++ zg_w t b
    rw [ih, List.append_assoc]
theorem zg_w_cgr {t t' : Nat → Nat} : ∀ l : List Nat, (∀ p, p ∈ l → t' p = t p) → zg_w t' l = zg_w t l := by
  intro l
  induction l with
  | nil => intro _; rfl
  | cons p l ih =>
    intro h
    show zg_l (t' p) ++ zg_w t' l = zg_l (t p) ++ zg_w t l
    rw [h p List.mem_cons_self, ih (fun q hq => h q (List.mem_cons_of_mem _ hq))]
theorem zg_cgr {B L L' : Nat → Prop} {fo fo' : Nat → Nat → Prop} (hc : ∀ p q, B p → fo p q → B q) (hf : ∀ p q, B p → (fo' p q ↔ fo p q)) (hL : ∀ p, B p → (L' p ↔ L p)) :
    ∀ (l : List Nat) (p : Nat), B p → (zg_p L' fo' p l ↔ zg_p L fo p l) := by
  intro l
  induction l with
  | nil => intro p hp; exact hL p hp
  | cons q l ih =>
    intro p hp
    constructor
    · intro h
      have h3 := (hf p q hp).mp h.1
      exact And.intro h3 ((ih q (hc p q hp h3)).mp h.2)
    · intro h
      exact And.intro ((hf p q hp).mpr h.1) ((ih q (hc p q hp h.1)).mpr h.2)
theorem zg_mem_p {B L : Nat → Prop} {fo : Nat → Nat → Prop} (hc : ∀ p q, B p → fo p q → B q) : ∀ (l : List Nat) (p : Nat), B p → zg_p L fo p l → ∀ q, q ∈ l → B q := by
  intro l
  induction l with
  | nil => intro p _ _ q hq; cases hq
  | cons a l ih =>
    intro p hp h q hq
    have ha := hc p a hp h.1
    rcases List.mem_cons.mp hq with e | hq
    · exact e ▸ ha
    · exact ih a ha h.2 q hq
theorem zg_mem {B F L : Nat → Prop} {E : Prop} {fo : Nat → Nat → Prop} (hc : ∀ p q, B p → fo p q → B q) (hF : ∀ p, F p → B p) : ∀ l : List Nat, zg_a E F L fo l → ∀ q, q ∈ l → B q := by
  intro l h q hq
  cases l with
  | nil => cases hq
  | cons a l =>
    have ha := hF a h.1
    rcases List.mem_cons.mp hq with e | hq
    · exact e ▸ ha
    · exact zg_mem_p hc l a ha h.2 q hq
theorem zg_a_cgr {B F F' L L' : Nat → Prop} {E E' : Prop} {fo fo' : Nat → Nat → Prop} (hc : ∀ p q, B p → fo p q → B q) (hF : ∀ p, F p → B p)
    (hE : E' ↔ E) (hF' : ∀ p, F' p ↔ F p) (hf : ∀ p q, B p → (fo' p q ↔ fo p q)) (hL : ∀ p, B p → (L' p ↔ L p)) : ∀ l : List Nat, zg_a E' F' L' fo' l ↔ zg_a E F L fo l := by
  intro l
  cases l with
  | nil => exact hE
  | cons p l =>
    constructor
    · intro h
      have hp := (hF' p).mp h.1
      exact And.intro hp ((zg_cgr hc hf hL l p (hF p hp)).mp h.2)
    · intro h
      exact And.intro ((hF' p).mpr h.1) ((zg_cgr hc hf hL l p (hF p h.1)).mpr h.2)
theorem zg_A_cgr {B F F' L L' : Nat → Prop} {E E' : Prop} {fo fo' : Nat → Nat → Prop} {tx tx' ty ty' : Nat → Nat} {u v : List Nat} (hc : ∀ p q, B p → fo p q → B q) (hF : ∀ p, F p → B p)
    (hE : E' ↔ E) (hF' : ∀ p, F' p ↔ F p) (hf : ∀ p q, B p → (fo' p q ↔ fo p q)) (hL : ∀ p, B p → (L' p ↔ L p)) (hx : ∀ p, B p → tx' p = tx p) (hy : ∀ p, B p → ty' p = ty p) :
    zg_A E' F' L' fo' tx' ty' u v ↔ zg_A E F L fo tx ty u v := by
  constructor
  · intro ⟨l, hl, e1, e2⟩
    have hl2 := (zg_a_cgr hc hF hE hF' hf hL l).mp hl
    have hm := zg_mem hc hF l hl2
    exact ⟨l, hl2, (zg_w_cgr l (fun p hp => hx p (hm p hp))).symm.trans e1, (zg_w_cgr l (fun p hp => hy p (hm p hp))).symm.trans e2⟩
  · intro ⟨l, hl2, e1, e2⟩
    have hm := zg_mem hc hF l hl2
    exact ⟨l, (zg_a_cgr hc hF hE hF' hf hL l).mpr hl2, (zg_w_cgr l (fun p hp => hx p (hm p hp))).trans e1, (zg_w_cgr l (fun p hp => hy p (hm p hp))).trans e2⟩
/-- turn: the letters of each place change sides -/
theorem zg_A_turn {B F L : Nat → Prop} {E : Prop} {fo : Nat → Nat → Prop} {tx tx' ty ty' : Nat → Nat} {u v : List Nat} (hc : ∀ p q, B p → fo p q → B q) (hF : ∀ p, F p → B p)
    (hx : ∀ p, B p → tx' p = ty p) (hy : ∀ p, B p → ty' p = tx p) : zg_A E F L fo tx' ty' u v ↔ zg_A E F L fo tx ty v u := by
  constructor
  · intro ⟨l, hl, e1, e2⟩
    have hm := zg_mem hc hF l hl
    exact ⟨l, hl, (zg_w_cgr l (fun p hp => hy p (hm p hp))).symm.trans e2, (zg_w_cgr l (fun p hp => hx p (hm p hp))).symm.trans e1⟩
  · intro ⟨l, hl, e1, e2⟩
    have hm := zg_mem hc hF l hl
    exact ⟨l, hl, (zg_w_cgr l (fun p hp => hx p (hm p hp))).trans e2, (zg_w_cgr l (fun p hp => hy p (hm p hp))).trans e1⟩
/-- alt: two closed blocks side by side -/
theorem zg_A_alt {A B Fx Fy Lx Ly F' L' : Nat → Prop} {Ex Ey E' : Prop} {fo : Nat → Nat → Prop} {tx ty : Nat → Nat} {u v : List Nat}
    (hA : ∀ p q, A p → fo p q → A q) (hB : ∀ p q, B p → fo p q → B q) (hd : ∀ p, A p → B p → False)
    (hFx : ∀ p, Fx p → A p) (hFy : ∀ p, Fy p → B p) (hLx : ∀ p, Lx p → A p) (hLy : ∀ p, Ly p → B p)
    (hF' : ∀ p, F' p ↔ Fx p ∨ Fy p) (hL' : ∀ p, L' p ↔ Lx p ∨ Ly p) (hE' : E' ↔ Ex ∨ Ey) :
    zg_A E' F' L' fo tx ty u v ↔ zg_A Ex Fx Lx fo tx ty u v ∨ zg_A Ey Fy Ly fo tx ty u v := by
  have ga : ∀ l p, A p → (zg_p L' fo p l ↔ zg_p Lx fo p l) := zg_cgr hA (fun _ _ _ => Iff.rfl) (fun p hp => (hL' p).trans ⟨fun h => h.elim id (fun h => (hd p hp (hLy p h)).elim), Or.inl⟩)
  have gb : ∀ l p, B p → (zg_p L' fo p l ↔ zg_p Ly fo p l) := zg_cgr hB (fun _ _ _ => Iff.rfl) (fun p hp => (hL' p).trans ⟨fun h => h.elim (fun h => (hd p (hLx p h) hp).elim) id, Or.inr⟩)
  have key : ∀ l, zg_a E' F' L' fo l ↔ zg_a Ex Fx Lx fo l ∨ zg_a Ey Fy Ly fo l := by
    intro l
    cases l with
    | nil => exact hE'
    | cons p l =>
      constructor
      · intro h
        rcases (hF' p).mp h.1 with hp | hp
        · exact Or.inl (And.intro hp ((ga l p (hFx p hp)).mp h.2))
        · exact Or.inr (And.intro hp ((gb l p (hFy p hp)).mp h.2))
      · intro h
        rcases h with h | h
        · exact And.intro ((hF' p).mpr (Or.inl h.1)) ((ga l p (hFx p h.1)).mpr h.2)
        · exact And.intro ((hF' p).mpr (Or.inr h.1)) ((gb l p (hFy p h.1)).mpr h.2)
  constructor
  · intro ⟨l, hl, e⟩
    rcases (key l).mp hl with h | h
    · exact Or.inl ⟨l, h, e⟩
    · exact Or.inr ⟨l, h, e⟩
  · intro h
    rcases h with ⟨l, hl, e⟩ | ⟨l, hl, e⟩
    · exact ⟨l, (key l).mpr (Or.inl hl), e⟩
    · exact ⟨l, (key l).mpr (Or.inr hl), e⟩
/-- cat: paths of the one block, then paths of the other -/
theorem zg_a_cat {A B Fx Fy Lx Ly F' L' : Nat → Prop} {Ex Ey E' : Prop} {fo fo' : Nat → Nat → Prop}
    (hA : ∀ p q, A p → fo p q → A q) (hB : ∀ p q, B p → fo p q → B q) (hd : ∀ p, A p → B p → False)
    (hFx : ∀ p, Fx p → A p) (hFy : ∀ p, Fy p → B p) (hLx : ∀ p, Lx p → A p) (hLy : ∀ p, Ly p → B p)
    (hf' : ∀ p q, fo' p q ↔ fo p q ∨ (Lx p ∧ Fy q)) (hF' : ∀ p, F' p ↔ Fx p ∨ (Ex ∧ Fy p)) (hL' : ∀ p, L' p ↔ (Ey ∧ Lx p) ∨ Ly p) (hE' : E' ↔ Ex ∧ Ey) (l : List Nat) :
    zg_a E' F' L' fo' l ↔ ∃ l1 l2 : List Nat, l = l1 ++ l2 ∧ zg_a Ex Fx Lx fo l1 ∧ zg_a Ey Fy Ly fo l2 := by
  have gb : ∀ l p, B p → (zg_p L' fo' p l ↔ zg_p Ly fo p l) := zg_cgr hB
    (fun p q hp => (hf' p q).trans ⟨fun h => h.elim id (fun h => (hd p (hLx p h.1) hp).elim), Or.inl⟩)
    (fun p hp => (hL' p).trans ⟨fun h => h.elim (fun h => (hd p (hLx p h.2) hp).elim) id, Or.inr⟩)
  have ga : ∀ l p, A p → (zg_p L' fo' p l ↔ ∃ l1 l2 : List Nat, l = l1 ++ l2 ∧ zg_p Lx fo p l1 ∧ zg_a Ey Fy Ly fo l2) := by
    intro l
    induction l with
    | nil =>
      intro p hp
      constructor
      · intro h
        rcases (hL' p).mp h with h | h
        · exact ⟨[], [], rfl, h.2, h.1⟩
        · exact (hd p hp (hLy p h)).elim
      · intro ⟨l1, l2, e, h1, h2⟩
        have e2 := List.append_eq_nil_iff.mp e.symm
        obtain ⟨rfl, rfl⟩ := e2
        exact (hL' p).mpr (Or.inl ⟨h2, h1⟩)
    | cons q l ih =>
      intro p hp
      constructor
      · intro h
        rcases (hf' p q).mp h.1 with hq | hq
        · obtain ⟨l1, l2, e, h1, h2⟩ := (ih q (hA p q hp hq)).mp h.2
          exact ⟨q :: l1, l2, by rw [e]; rfl, And.intro hq h1, h2⟩
        · exact ⟨[], q :: l, rfl, hq.1, And.intro hq.2 ((gb l q (hFy q hq.2)).mp h.2)⟩
      · intro ⟨l1, l2, e, h1, h2⟩
        cases l1 with
        | nil =>
          have e' : q :: l = l2 := e
          subst e'
          exact And.intro ((hf' p q).mpr (Or.inr ⟨h1, h2.1⟩)) ((gb l q (hFy q h2.1)).mpr h2.2)
        | cons a l1 =>
          have e' : q :: l = a :: (l1 ++ l2) := e
          injection e' with ea el
          subst ea
          exact And.intro ((hf' p q).mpr (Or.inl h1.1)) ((ih q (hA p q hp h1.1)).mpr ⟨l1, l2, el, h1.2, h2⟩)
  cases l with
  | nil =>
    constructor
    · intro h
      have h' := hE'.mp h
      exact ⟨[], [], rfl, h'.1, h'.2⟩
    · intro ⟨l1, l2, e, h1, h2⟩
      have e2 := List.append_eq_nil_iff.mp e.symm
      obtain ⟨rfl, rfl⟩ := e2
      exact hE'.mpr ⟨h1, h2⟩
  | cons q l =>
    constructor
    · intro h
      rcases (hF' q).mp h.1 with hq | hq
      · obtain ⟨l1, l2, e, h1, h2⟩ := (ga l q (hFx q hq)).mp h.2
        exact ⟨q :: l1, l2, by rw [e]; rfl, And.intro hq h1, h2⟩
      · exact ⟨[], q :: l, rfl, hq.1, And.intro hq.2 ((gb l q (hFy q hq.2)).mp h.2)⟩
    · intro ⟨l1, l2, e, h1, h2⟩
      cases l1 with
      | nil =>
        have e' : q :: l = l2 := e
        subst e'
        exact And.intro ((hF' q).mpr (Or.inr ⟨h1, h2.1⟩)) ((gb l q (hFy q h2.1)).mpr h2.2)
      | cons a l1 =>
        have e' : q :: l = a :: (l1 ++ l2) := e
        injection e' with ea el
        subst ea
        exact And.intro ((hF' q).mpr (Or.inl h1.1)) ((ga l q (hFx q h1.1)).mpr ⟨l1, l2, el, h1.2, h2⟩)
theorem zg_len_app (t : Nat → Nat) (a b u : List Nat) (h : zg_w t (a ++ b) = u) : (zg_w t a).length ≤ u.length ∧ u.take (zg_w t a).length = zg_w t a ∧ u.drop (zg_w t a).length = zg_w t b := by
  rw [zg_w_app] at h
  subst h
  refine ⟨?_, List.take_left, List.drop_left⟩
  rw [List.length_append]
  omega
theorem zg_A_cat {A B Fx Fy Lx Ly F' L' : Nat → Prop} {Ex Ey E' : Prop} {fo fo' : Nat → Nat → Prop} {tx ty : Nat → Nat} {u v : List Nat}
    (hA : ∀ p q, A p → fo p q → A q) (hB : ∀ p q, B p → fo p q → B q) (hd : ∀ p, A p → B p → False)
    (hFx : ∀ p, Fx p → A p) (hFy : ∀ p, Fy p → B p) (hLx : ∀ p, Lx p → A p) (hLy : ∀ p, Ly p → B p)
    (hf' : ∀ p q, fo' p q ↔ fo p q ∨ (Lx p ∧ Fy q)) (hF' : ∀ p, F' p ↔ Fx p ∨ (Ex ∧ Fy p)) (hL' : ∀ p, L' p ↔ (Ey ∧ Lx p) ∨ Ly p) (hE' : E' ↔ Ex ∧ Ey) :
    zg_A E' F' L' fo' tx ty u v ↔ ∃ p, p ≤ u.length ∧ ∃ q, q ≤ v.length ∧ zg_A Ex Fx Lx fo tx ty (u.take p) (v.take q) ∧ zg_A Ey Fy Ly fo tx ty (u.drop p) (v.drop q) := by
  have key := zg_a_cat hA hB hd hFx hFy hLx hLy hf' hF' hL' hE'
  constructor
  · intro ⟨l, hl, e1, e2⟩
    obtain ⟨l1, l2, e, h1, h2⟩ := (key l).mp hl
    subst e
    have t1 := zg_len_app tx l1 l2 u e1
    have t2 := zg_len_app ty l1 l2 v e2
    exact ⟨_, t1.1, _, t2.1, ⟨l1, h1, t1.2.1.symm, t2.2.1.symm⟩, ⟨l2, h2, t1.2.2.symm, t2.2.2.symm⟩⟩
  · intro ⟨p, _, q, _, ⟨l1, h1, a1, b1⟩, ⟨l2, h2, a2, b2⟩⟩
    refine ⟨l1 ++ l2, (key _).mpr ⟨l1, l2, rfl, h1, h2⟩, ?_, ?_⟩
    · rw [zg_w_app, a1, a2, List.take_append_drop]
    · rw [zg_w_app, b1, b2, List.take_append_drop]
/-- star -/
theorem zg_p_star {F L : Nat → Prop} {E' : Prop} {fo fo' : Nat → Nat → Prop} (hf' : ∀ p q, fo' p q ↔ fo p q ∨ (L p ∧ F q)) (hE' : E') :
    ∀ (l : List Nat) (p : Nat), zg_p L fo' p l ↔ ∃ l1 l2 : List Nat, l = l1 ++ l2 ∧ zg_p L fo p l1 ∧ zg_a E' F L fo' l2 := by
  intro l
  induction l with
  | nil =>
    intro p
    constructor
    · intro h
      exact ⟨[], [], rfl, h, hE'⟩
    · intro ⟨l1, l2, e, h1, h2⟩
      have e2 := List.append_eq_nil_iff.mp e.symm
      obtain ⟨rfl, rfl⟩ := e2
      exact h1
  | cons q l ih =>
    intro p
    constructor
    · intro h
      rcases (hf' p q).mp h.1 with hq | hq
      · obtain ⟨l1, l2, e, h1, h2⟩ := (ih q).mp h.2
        exact ⟨q :: l1, l2, by rw [e]; rfl, And.intro hq h1, h2⟩
      · exact ⟨[], q :: l, rfl, hq.1, And.intro hq.2 h.2⟩
    · intro ⟨l1, l2, e, h1, h2⟩
      cases l1 with
      | nil =>
        have e' : q :: l = l2 := e
        subst e'
        exact And.intro ((hf' p q).mpr (Or.inr ⟨h1, h2.1⟩)) h2.2
      | cons a l1 =>
        have e' : q :: l = a :: (l1 ++ l2) := e
        injection e' with ea el
        subst ea
        exact And.intro ((hf' p q).mpr (Or.inl h1.1)) ((ih q).mpr ⟨l1, l2, el, h1.2, h2⟩)
theorem zg_l_pos {x : Nat} (h : x < 2) : (zg_l x).length = 1 := by
  unfold zg_l
  rw [if_pos h]
  rfl
theorem zg_A_star {B F L : Nat → Prop} {E E' : Prop} {fo fo' : Nat → Nat → Prop} {tx ty : Nat → Nat} {u v : List Nat}
    (hFB : ∀ p, F p → B p) (hB : ∀ p, B p → tx p < 2 ∨ ty p < 2)
    (hf' : ∀ p q, fo' p q ↔ fo p q ∨ (L p ∧ F q)) (hE' : E') :
    zg_A E' F L fo' tx ty u v ↔ (u = [] ∧ v = []) ∨ ∃ p, p ≤ u.length ∧ ∃ q, q ≤ v.length ∧ 0 < p + q ∧ zg_A E F L fo tx ty (u.take p) (v.take q) ∧ zg_A E' F L fo' tx ty (u.drop p) (v.drop q) := by
  have key := zg_p_star hf' hE'
  constructor
  · intro ⟨l, hl, e1, e2⟩
    cases l with
    | nil => exact Or.inl ⟨e1.symm, e2.symm⟩
    | cons a l =>
      obtain ⟨l1, l2, e, h1, h2⟩ := (key l a).mp hl.2
      subst e
      have t1 := zg_len_app tx (a :: l1) l2 u e1
      have t2 := zg_len_app ty (a :: l1) l2 v e2
      refine Or.inr ⟨_, t1.1, _, t2.1, ?_, ⟨a :: l1, And.intro hl.1 h1, t1.2.1.symm, t2.2.1.symm⟩, ⟨l2, h2, t1.2.2.symm, t2.2.2.symm⟩⟩
      show 0 < (zg_l (tx a) ++ zg_w tx l1).length + (zg_l (ty a) ++ zg_w ty l1).length
      rw [List.length_append, List.length_append]
      rcases hB a (hFB a hl.1) with z | z
      · have := zg_l_pos z
        omega
      · have := zg_l_pos z
        omega
  · intro h
    rcases h with ⟨rfl, rfl⟩ | ⟨p, _, q, _, _, ⟨l1, h1, a1, b1⟩, ⟨l2, h2, a2, b2⟩⟩
    · exact ⟨[], hE', rfl, rfl⟩
    · refine ⟨l1 ++ l2, ?_, ?_, ?_⟩
      · cases l1 with
        | nil => exact h2
        | cons a l1 => exact And.intro h1.1 ((key _ a).mpr ⟨l1, l2, rfl, h1.2, h2⟩)
      · rw [zg_w_app, a1, a2, List.take_append_drop]
      · rw [zg_w_app, b1, b2, List.take_append_drop]
/-- paths by their last place -/
theorem zg_snoc {fo : Nat → Nat → Prop} {p s : Nat} : ∀ (l : List Nat) (r : Nat), zg_p (fun x => x = p) fo r (l ++ [s]) ↔ s = p ∧ ∃ q, zg_p (fun x => x = q) fo r l ∧ fo q p := by
  intro l
  induction l with
  | nil =>
    intro r
    constructor
    · intro h
      have h2 : s = p := h.2
      have h1 : fo r s := h.1
      subst h2
      exact ⟨rfl, r, rfl, h1⟩
    · intro ⟨e, q, eq, h⟩
      have eq' : r = q := eq
      subst e
      subst eq'
      exact And.intro h rfl
  | cons a l ih =>
    intro r
    constructor
    · intro h
      obtain ⟨e, q, h1, h2⟩ := (ih a).mp h.2
      exact ⟨e, q, And.intro h.1 h1, h2⟩
    · intro ⟨e, q, h1, h2⟩
      exact And.intro h1.1 ((ih a).mpr ⟨e, q, h1.2, h2⟩)
theorem zg_last {L : Nat → Prop} {fo : Nat → Nat → Prop} : ∀ (l : List Nat) (r : Nat), zg_p L fo r l ↔ ∃ p, L p ∧ zg_p (fun x => x = p) fo r l := by
  intro l
  induction l with
  | nil =>
    intro r
    constructor
    · intro h
      exact ⟨r, h, rfl⟩
    · intro ⟨p, h, e⟩
      have e' : r = p := e
      subst e'
      exact h
  | cons a l ih =>
    intro r
    constructor
    · intro h
      obtain ⟨p, h1, h2⟩ := (ih a).mp h.2
      exact ⟨p, h1, And.intro h.1 h2⟩
    · intro ⟨p, h1, h2⟩
      exact And.intro h2.1 ((ih a).mpr ⟨p, h1, h2.2⟩)
/-- (u, v) is spelt by a path that ends in place p -/
def zg_R (F : Nat → Prop) (fo : Nat → Nat → Prop) (tx ty : Nat → Nat) (u v : List Nat) (p : Nat) : Prop := zg_A False F (fun x => x = p) fo tx ty u v
theorem zg_acc {E : Prop} {F L : Nat → Prop} {fo : Nat → Nat → Prop} {tx ty : Nat → Nat} {u v : List Nat} :
    zg_A E F L fo tx ty u v ↔ (E ∧ u = [] ∧ v = []) ∨ ∃ p, L p ∧ zg_R F fo tx ty u v p := by
  constructor
  · intro ⟨l, hl, e1, e2⟩
    cases l with
    | nil => exact Or.inl ⟨hl, e1.symm, e2.symm⟩
    | cons a l =>
      obtain ⟨p, h1, h2⟩ := (zg_last l a).mp hl.2
      exact Or.inr ⟨p, h1, a :: l, And.intro hl.1 h2, e1, e2⟩
  · intro h
    rcases h with ⟨hE, rfl, rfl⟩ | ⟨p, h1, l, hl, e1, e2⟩
    · exact ⟨[], hE, rfl, rfl⟩
    · refine ⟨l, ?_, e1, e2⟩
      cases l with
      | nil => exact hl.elim
      | cons a l => exact And.intro hl.1 ((zg_last l a).mpr ⟨p, h1, hl.2⟩)
theorem zg_rec {F : Nat → Prop} {fo : Nat → Nat → Prop} {tx ty : Nat → Nat} {u v : List Nat} {p : Nat} :
    zg_R F fo tx ty u v p ↔ ∃ u' v' : List Nat, u = u' ++ zg_l (tx p) ∧ v = v' ++ zg_l (ty p) ∧ ((u' = [] ∧ v' = [] ∧ F p) ∨ ∃ q, zg_R F fo tx ty u' v' q ∧ fo q p) := by
  constructor
  · intro ⟨l, hl, e1, e2⟩
    cases l with
    | nil => exact hl.elim
    | cons a l =>
      rcases List.eq_nil_or_concat l with e | ⟨l1, s, e⟩
      · subst e
        have e : a = p := hl.2
        subst e
        refine ⟨[], [], ?_, ?_, Or.inl ⟨rfl, rfl, hl.1⟩⟩
        · rw [← e1]
          exact List.append_nil _
        · rw [← e2]
          exact List.append_nil _
      · rw [List.concat_eq_append] at e
        subst e
        obtain ⟨e, q, h1, h2⟩ := (zg_snoc l1 a).mp hl.2
        subst e
        refine ⟨zg_w tx (a :: l1), zg_w ty (a :: l1), ?_, ?_, Or.inr ⟨q, ⟨a :: l1, And.intro hl.1 h1, rfl, rfl⟩, h2⟩⟩
        · rw [← e1, ← List.cons_append, zg_w_app]
          exact congrArg _ (List.append_nil _)
        · rw [← e2, ← List.cons_append, zg_w_app]
          exact congrArg _ (List.append_nil _)
  · intro ⟨u', v', e1, e2, h⟩
    rcases h with ⟨rfl, rfl, hp⟩ | ⟨q, ⟨l, hl, a1, a2⟩, hq⟩
    · refine ⟨[p], And.intro hp rfl, ?_, ?_⟩
      · rw [e1]
        exact List.append_nil _
      · rw [e2]
        exact List.append_nil _
    · cases l with
      | nil => exact hl.elim
      | cons a l =>
        refine ⟨a :: (l ++ [p]), And.intro hl.1 ((zg_snoc l a).mpr ⟨rfl, q, hl.2, hq⟩), ?_, ?_⟩
        · rw [← List.cons_append, zg_w_app, a1, e1]
          exact congrArg _ (List.append_nil _)
        · rw [← List.cons_append, zg_w_app, a2, e2]
          exact congrArg _ (List.append_nil _)
end
section
/-! the reference's helper methods -/
section
variable {yd ys yp : Int32} {sa : Nat → Int32}
theorem zy_ix (r u : Nat) : (31 : Int32) * nI r + nI u = nI (31 * r + u) := by
  show nI 31 * nI r + nI u = _
  rw [pk_mul, nI_add]
theorem zw_l3 : ∀ j, j < 4 → 2 ^ (j + 1) - 1 < 2 ^ 31 := by decide
theorem zy_lenOf_2 {post : Int32 → Prop} {w : Nat} (hw : w < 31) (h : post (nI (zw_l w))) : ∀ n j : Nat, j ≤ zw_l w → zw_l w < j + n → wY_lenOf_2 post (nI w) yd ys yp sa n (nI j) := by
  intro n
  induction n with
  | zero => intro j h1 h2; omega
  | succ n ih =>
    intro j h1 h2
    have h4 := zw_le4 hw
    refine pk_le 4 j (fun z => ?_) (fun z => ?_)
    · have e : j = zw_l w := by omega
      rw [e]
      exact h
    · have t := zw_l1 w hw j (by omega)
      refine pk_lt w (2 ^ (j + 1) - 1) (fun y => ?_) (fun y => ?_) rfl (zw_l2 j z) (by omega) (zw_l3 j z)
      · have t1 := t.1 y
        have e : j = zw_l w := by omega
        rw [e]
        exact h
      · have t2 := t.2 (Nat.not_lt.mpr y)
        intro x ex
        rw [ex, nI_1]
        exact ih (j + 1) (by omega) (by omega)
theorem zy_lenOf {post : Int32 → Prop} {w : Nat} {p0 : Int32} (e0 : p0 = nI w) (hw : w < 31) (h : post (nI (zw_l w))) : wpY_lenOf post (yd, ys, yp, sa) p0 := by
  subst e0
  have h4 := zw_le4 hw
  exact Exists.intro 5 (zy_lenOf_2 hw h 5 0 (Nat.zero_le _) (by omega))
theorem zy_head {post : Int32 → Prop} {w p : Nat} {p0 p1 : Int32} (e0 : p0 = nI w) (e1 : p1 = nI p) (hw : w < 31) (hp : p ≤ zw_l w) (h : post (nI (zw_h w p))) : wpY_head post (yd, ys, yp, sa) p0 p1 := by
  subst e0 e1
  have h4 := zw_le4 hw
  unfold wpY_head
  dsimp only
  refine zy_lenOf rfl hw ?_
  intro x ex
  subst ex
  rw [zw_hv w hw p (by omega) hp]
  exact h
theorem zy_tail {post : Int32 → Prop} {w p : Nat} {p0 p1 : Int32} (e0 : p0 = nI w) (e1 : p1 = nI p) (hw : w < 31) (hp : p ≤ zw_l w) (h : post (nI (zw_t w p))) : wpY_tail post (yd, ys, yp, sa) p0 p1 := by
  subst e0 e1
  have h4 := zw_le4 hw
  unfold wpY_tail
  dsimp only
  refine zy_lenOf rfl hw ?_
  intro x ex y ey
  subst ex ey
  rw [zw_tv w hw p (by omega) hp]
  exact h
theorem zy_has {post : Int32 → Prop} {r u v : Nat} {p0 p1 p2 : Int32} (e0 : p0 = nI r) (e1 : p1 = nI u) (e2 : p2 = nI v) (hr : r < 8) (hu : u < 31) (hv : v < 31)
    (h1 : bt (sa (31 * r + u)) v = true → post 1) (h0 : ¬ bt (sa (31 * r + u)) v = true → post 0) : wpY_has post (yd, ys, yp, sa) p0 p1 p2 := by
  subst e0 e1 e2
  unfold wpY_has
  dsimp only
  rw [zy_ix, nI_clamp (by omega)]
  have hv2 : v < 32 := by omega
  exact And.intro (vp_in_nI (by omega) (by omega)) (br_c (fun z => h1 ((zb_bitI hv2).mp z)) (fun z => h0 (fun t => z ((zb_bitI hv2).mpr t))))
theorem zy_put {post : SY → Prop} {r u v : Nat} {p0 p1 p2 : Int32} (e0 : p0 = nI r) (e1 : p1 = nI u) (e2 : p2 = nI v) (hr : r < 8) (hu : u < 31) (hv : v < 31)
    (h : ∀ sb : Nat → Int32, (∀ j i, bt (sb j) i = true ↔ bt (sa j) i = true ∨ (j = 31 * r + u ∧ i = v)) → post (yd, ys, yp, sb)) : wpY_put post (yd, ys, yp, sa) p0 p1 p2 := by
  subst e0 e1 e2
  unfold wpY_put
  dsimp only
  rw [zy_ix, nI_clamp (by omega)]
  have hin : vp_in (nI (31 * r + u)) 248 := vp_in_nI (by omega) (by omega)
  refine And.intro hin (And.intro hin ?_)
  intro sb es
  apply h
  intro j i
  rw [es]
  by_cases e : j = 31 * r + u
  · subst e
    rw [pk_us, zb_orT, zb_oneT (by omega)]
    exact ⟨fun t => t.imp id (fun t => ⟨rfl, t⟩), fun t => t.imp id (fun t => t.2)⟩
  · rw [pk_un e]
    exact ⟨Or.inl, fun t => t.elim id (fun t => absurd t.1 e)⟩
theorem zy_clear_2 {post : SY → Prop} {r : Nat} (hr : r < 8) (h : ∀ sb : Nat → Int32, (∀ j, sb j = if 31 * r ≤ j ∧ j < 31 * r + 31 then 0 else sa j) → post (yd, ys, yp, sb)) :
    ∀ (n i : Nat) (sb : Nat → Int32), i ≤ 31 → 31 < i + n → (∀ j, sb j = if 31 * r ≤ j ∧ j < 31 * r + i then 0 else sa j) → wY_clear_2 post (nI r) yd ys yp n (nI i) sb := by
  intro n
  induction n with
  | zero => intro i sb h1 h2; omega
  | succ n ih =>
    intro i sb h1 h2 hs
    refine pk_le 31 i (fun z => ?_) (fun z => ?_)
    · have e : i = 31 := by omega
      subst e
      exact h sb hs
    · rw [zy_ix, nI_clamp (by omega)]
      refine And.intro (vp_in_nI (by omega) (by omega)) ?_
      intro sb' es x ex
      rw [ex, nI_1]
      refine ih (i + 1) sb' (by omega) (by omega) ?_
      intro j
      rw [es]
      by_cases e : j = 31 * r + i
      · subst e
        rw [pk_us, if_pos ⟨by omega, by omega⟩]
      · rw [pk_un e, hs j]
        by_cases c : 31 * r ≤ j ∧ j < 31 * r + i
        · rw [if_pos c, if_pos ⟨c.1, by omega⟩]
        · rw [if_neg c, if_neg (fun z => c ⟨z.1, by omega⟩)]
theorem zy_clear {post : SY → Prop} {r : Nat} {p0 : Int32} (e0 : p0 = nI r) (hr : r < 8) (h : ∀ sb : Nat → Int32, (∀ j, sb j = if 31 * r ≤ j ∧ j < 31 * r + 31 then 0 else sa j) → post (yd, ys, yp, sb)) : wpY_clear post (yd, ys, yp, sa) p0 := by
  subst e0
  exact Exists.intro 32 (zy_clear_2 hr h 32 0 sa (by omega) (by omega) (fun j => by rw [if_neg (by omega)]))
theorem zy_copy_2 {post : SY → Prop} {f t : Nat} (hf : f < 8) (ht : t < 8) (hne : f ≠ t)
    (h : ∀ sb : Nat → Int32, (∀ j, sb j = if 31 * t ≤ j ∧ j < 31 * t + 31 then sa (31 * f + (j - 31 * t)) else sa j) → post (yd, ys, yp, sb)) :
    ∀ (n i : Nat) (sb : Nat → Int32), i ≤ 31 → 31 < i + n → (∀ j, sb j = if 31 * t ≤ j ∧ j < 31 * t + i then sa (31 * f + (j - 31 * t)) else sa j) → wY_copy_2 post (nI f) (nI t) yd ys yp n (nI i) sb := by
  intro n
  induction n with
  | zero => intro i sb h1 h2; omega
  | succ n ih =>
    intro i sb h1 h2 hs
    refine pk_le 31 i (fun z => ?_) (fun z => ?_)
    · have e : i = 31 := by omega
      subst e
      exact h sb hs
    · rw [zy_ix, zy_ix, nI_clamp (by omega), nI_clamp (by omega)]
      refine And.intro (vp_in_nI (by omega) (by omega)) (And.intro (vp_in_nI (by omega) (by omega)) ?_)
      intro sb' es x ex
      rw [ex, nI_1]
      refine ih (i + 1) sb' (by omega) (by omega) ?_
      intro j
      rw [es]
      by_cases e : j = 31 * t + i
      · subst e
        rw [pk_us, if_pos ⟨by omega, by omega⟩, hs (31 * f + i), if_neg (by omega), Nat.add_sub_cancel_left]
      · rw [pk_un e, hs j]
        by_cases c : 31 * t ≤ j ∧ j < 31 * t + i
        · rw [if_pos c, if_pos ⟨c.1, by omega⟩]
        · rw [if_neg c, if_neg (fun z => c ⟨z.1, by omega⟩)]
theorem zy_copy {post : SY → Prop} {f t : Nat} {p0 p1 : Int32} (e0 : p0 = nI f) (e1 : p1 = nI t) (hf : f < 8) (ht : t < 8) (hne : f ≠ t)
    (h : ∀ sb : Nat → Int32, (∀ j, sb j = if 31 * t ≤ j ∧ j < 31 * t + 31 then sa (31 * f + (j - 31 * t)) else sa j) → post (yd, ys, yp, sb)) : wpY_copy post (yd, ys, yp, sa) p0 p1 := by
  subst e0 e1
  exact Exists.intro 32 (zy_copy_2 hf ht hne h 32 0 sa (by omega) (by omega) (fun j => by rw [if_neg (by omega)]))
/-- at (p, q) the pair (u, v) is cut -/
def zy_C (a : Nat → Int32) (rx ry u v p q : Nat) : Prop :=
  (0 < p + q ∨ ry ≠ 7) ∧ bt (a (31 * rx + zw_h u p)) (zw_h v q) = true ∧ bt (a (31 * ry + zw_t u p)) (zw_t v q) = true
def zy_Q (a : Nat → Int32) (rx ry u v p : Nat) : Prop := ∃ q, q ≤ zw_l v ∧ zy_C a rx ry u v p q
def zy_P (a : Nat → Int32) (rx ry u v : Nat) : Prop := ∃ p, p ≤ zw_l u ∧ zy_Q a rx ry u v p
theorem zy_cutsAt_55 {post J : Int32 → Prop} {rx ry u v p q : Nat} {x5 x8 z0 : Int32} (hrx : rx < 8) (hry : ry < 8) (hu : u < 31) (hv : v < 31) (hp : p ≤ zw_l u) (hq : q ≤ zw_l v)
    (hz : (z0 = 0 ∧ ¬ (0 < p + q ∨ ry ≠ 7)) ∨ (z0 = 1 ∧ (0 < p + q ∨ ry ≠ 7))) (h1 : zy_C sa rx ry u v p q → post 1) (h0 : ¬ zy_C sa rx ry u v p q → J (nI (q + 1))) :
    wY_cutsAt_55 post J (nI rx) (nI ry) (nI v) x5 (nI (zw_h u p)) (nI (zw_t u p)) x8 (nI q) z0 yd ys yp sa := by
  have hu4 := zw_le4 hu
  have hv4 := zw_le4 hv
  have hp5 : p < 5 := by omega
  have hq5 : q < 5 := by omega
  refine zy_head rfl rfl hv hq ?_
  refine zy_tail rfl rfl hv hq ?_
  have stop : ¬ zy_C sa rx ry u v p q → ∀ x : Int32, x = nI q + 1 → J x := by
    intro c x ex
    rw [ex, nI_1]
    exact h0 c
  rcases hz with ⟨rfl, hz⟩ | ⟨rfl, hz⟩
  · exact br_t rfl (stop (fun c => hz c.1))
  · refine br_f (by decide) ?_
    refine zy_has rfl rfl rfl hrx (zw_hd u hu p hp5).2 (zw_hd v hv q hq5).2 (fun t1 => ?_) (fun t1 => ?_)
    · refine br_f (by decide) ?_
      refine zy_has rfl rfl rfl hry (zw_tl u hu p hp5).2 (zw_tl v hv q hq5).2 (fun t2 => ?_) (fun t2 => ?_)
      · exact br_f (by decide) (h1 ⟨hz, t1, t2⟩)
      · exact br_t rfl (stop (fun c => t2 c.2.2))
    · exact br_t rfl (stop (fun c => t1 c.2.1))
theorem zy_cutsAt_29 {post : Int32 → Prop} {rx ry u v p : Nat} (hrx : rx < 8) (hry : ry < 8) (hu : u < 31) (hv : v < 31) (hp : p ≤ zw_l u)
    (h1 : zy_Q sa rx ry u v p → post 1) (h0 : ¬ zy_Q sa rx ry u v p → post 0) :
    ∀ n q : Nat, q ≤ zw_l v + 1 → zw_l v + 1 < q + n → (∀ q', q' < q → ¬ zy_C sa rx ry u v p q') →
      wY_cutsAt_29 post (nI rx) (nI ry) (nI v) (nI p) (nI (zw_h u p)) (nI (zw_t u p)) (nI (zw_l v)) yd ys yp sa n (nI q) := by
  have hv4 := zw_le4 hv
  have hu4 := zw_le4 hu
  intro n
  induction n with
  | zero => intro q g1 g2; omega
  | succ n ih =>
    intro q g1 g2 hn
    refine pk_lt (zw_l v) q (fun z => ?_) (fun z => ?_)
    · apply h0
      intro ⟨q', hq', c⟩
      exact hn q' (by omega) c
    · have nxt : ¬ zy_C sa rx ry u v p q → wY_cutsAt_29 post (nI rx) (nI ry) (nI v) (nI p) (nI (zw_h u p)) (nI (zw_t u p)) (nI (zw_l v)) yd ys yp sa n (nI (q + 1)) := by
        intro c
        refine ih (q + 1) (by omega) (by omega) ?_
        intro q' hq'
        by_cases e : q' = q
        · rw [e]
          exact c
        · exact hn q' (by omega)
      have fin : zy_C sa rx ry u v p q → post 1 := fun c => h1 ⟨q, z, c⟩
      refine pk_lt 0 (p + q) (fun y => ?_) (fun y => ?_) rfl (nI_add p q)
      · exact zy_cutsAt_55 hrx hry hu hv hp z (Or.inr ⟨rfl, Or.inl y⟩) fin nxt
      · refine pk_eq ry 7 (fun w => ?_) (fun w => ?_)
        · exact zy_cutsAt_55 hrx hry hu hv hp z (Or.inl ⟨rfl, fun c => c.elim (fun t => by omega) (fun t => t w)⟩) fin nxt
        · exact zy_cutsAt_55 hrx hry hu hv hp z (Or.inr ⟨rfl, Or.inr w⟩) fin nxt
theorem zy_cutsAt {post : Int32 → Prop} {rx ry u v p : Nat} (hrx : rx < 8) (hry : ry < 8) (hu : u < 31) (hv : v < 31) (hp : p ≤ zw_l u)
    (h1 : zy_Q sa rx ry u v p → post 1) (h0 : ¬ zy_Q sa rx ry u v p → post 0) : wpY_cutsAt post (yd, ys, yp, sa) (nI rx) (nI ry) (nI u) (nI v) (nI p) := by
  unfold wpY_cutsAt
  dsimp only
  refine zy_head rfl rfl hu hp ?_
  refine zy_tail rfl rfl hu hp ?_
  refine zy_lenOf rfl hv ?_
  have hv4 := zw_le4 hv
  exact Exists.intro 7 (zy_cutsAt_29 hrx hry hu hv hp h1 h0 7 0 (by omega) (by omega) (fun q' hq' => absurd hq' (Nat.not_lt_zero _)))
theorem zy_cuts_10 {post : Int32 → Prop} {rx ry u v : Nat} (hrx : rx < 8) (hry : ry < 8) (hu : u < 31) (hv : v < 31)
    (h1 : zy_P sa rx ry u v → post 1) (h0 : ¬ zy_P sa rx ry u v → post 0) :
    ∀ n p : Nat, p ≤ zw_l u + 1 → zw_l u + 1 < p + n → (∀ p', p' < p → ¬ zy_Q sa rx ry u v p') → wY_cuts_10 post (nI rx) (nI ry) (nI u) (nI v) (nI (zw_l u)) yd ys yp sa n (nI p) := by
  have hu4 := zw_le4 hu
  intro n
  induction n with
  | zero => intro q g1 g2; omega
  | succ n ih =>
    intro p g1 g2 hn
    refine pk_lt (zw_l u) p (fun z => ?_) (fun z => ?_)
    · apply h0
      intro ⟨p', hp', c⟩
      exact hn p' (by omega) c
    · refine zy_cutsAt hrx hry hu hv z (fun c => ?_) (fun c => ?_)
      · exact br_f (by decide) (h1 ⟨p, z, c⟩)
      · refine br_t rfl ?_
        intro x ex
        rw [ex, nI_1]
        refine ih (p + 1) (by omega) (by omega) ?_
        intro p' hp'
        by_cases e : p' = p
        · rw [e]
          exact c
        · exact hn p' (by omega)
theorem zy_cuts {post : Int32 → Prop} {rx ry u v : Nat} {p0 p1 p2 p3 : Int32} (e0 : p0 = nI rx) (e1 : p1 = nI ry) (e2 : p2 = nI u) (e3 : p3 = nI v) (hrx : rx < 8) (hry : ry < 8) (hu : u < 31) (hv : v < 31)
    (h1 : zy_P sa rx ry u v → post 1) (h0 : ¬ zy_P sa rx ry u v → post 0) : wpY_cuts post (yd, ys, yp, sa) p0 p1 p2 p3 := by
  subst e0 e1 e2 e3
  unfold wpY_cuts
  dsimp only
  refine zy_lenOf rfl hu ?_
  have hu4 := zw_le4 hu
  exact Exists.intro 7 (zy_cuts_10 hrx hry hu hv h1 h0 7 0 (by omega) (by omega) (fun q' hq' => absurd hq' (Nat.not_lt_zero _)))
theorem zy_P_cgr {a b : Nat → Int32} {rx ry u v : Nat} (hrx : rx < 7) (hry : ry < 7) (hu : u < 31) (hv : v < 31) (hab : ∀ j, j < 217 → a j = b j) : zy_P a rx ry u v → zy_P b rx ry u v := by
  intro ⟨p, hp, q, hq, c0, c1, c2⟩
  have hu4 := zw_le4 hu
  have hv4 := zw_le4 hv
  have g1 := (zw_hd u hu p (by omega)).2
  have g2 := (zw_tl u hu p (by omega)).2
  refine ⟨p, hp, q, hq, c0, ?_, ?_⟩
  · rw [← hab _ (by omega)]
    exact c1
  · rw [← hab _ (by omega)]
    exact c2
end
end
section
/-! the reference's making methods -/
/-- the word of a letter, 2 for none -/
def zw_i (x : Nat) : Nat := if x < 2 then 1 + x else 0
theorem zw_iw : ∀ x, x ≤ 2 → zw_w (zw_i x) = zg_l x := by decide
theorem zw_i31 : ∀ x, x ≤ 2 → zw_i x < 31 := by decide
section
variable {yd ys yp : Int32} {sa : Nat → Int32}
theorem zy_pair_75 {post : Int32 → SY → Prop} {h m c a y : Nat} (hh : h < 6) (ha : a < 31) (hy : y ≤ 2)
    (hp : ∀ sb : Nat → Int32, (∀ j i, bt (sb j) i = true ↔ bt (sa j) i = true ∨ (j = 31 * h + a ∧ i = zw_i y)) → post (nI (h + 1)) (nI (h + 1), nI (m + 1), nI (c + 1), sb)) :
    wY_pair_75 post (nI y) (nI a) (nI h) (nI h) (nI m) (nI c) sa := by
  have key : ∀ z : Int32, z = nI (zw_i y) → wY_pair_87 post z (nI a) (nI h) (nI h) (nI m) (nI c) sa := by
    intro z ez
    refine zy_put rfl rfl ez (by omega) ha (zw_i31 y hy) ?_
    intro sb hs
    intro s es q eq d ed
    rw [nI_1] at es eq ed
    subst es eq ed
    exact hp sb hs
  refine pk_eq y 2 (fun z => ?_) (fun z => ?_)
  · exact key 0 (by subst z; rfl)
  · refine key _ ?_
    rw [show zw_i y = 1 + y from if_pos (by omega)]
    exact nI_add 1 y
theorem zy_pair {post : Int32 → SY → Prop} {h m c x y : Nat} (hx : x ≤ 2) (hy : y ≤ 2) (hm : m < 18) (hh : h < 6) (hc : c < 9)
    (hp : ∀ sb : Nat → Int32, (∀ j, ¬ (31 * h ≤ j ∧ j < 31 * h + 31) → sb j = sa j) → (∀ u v, u < 31 → v < 31 → (bt (sb (31 * h + u)) v = true ↔ u = zw_i x ∧ v = zw_i y)) → post (nI (h + 1)) (nI (h + 1), nI (m + 1), nI (c + 1), sb)) :
    wpY_pair post (nI h, nI m, nI c, sa) (nI x) (nI y) := by
  refine br_f (nI_pos (by omega)) (br_f (nI_nlt (a := 2) hx (by decide)) (br_f (nI_pos (by omega)) (br_t (nI_le (b := 2) hy (by decide)) ?_)))
  refine pk_eq m 18 (fun z => absurd z (by omega)) (fun _ => ?_)
  refine pk_eq h 6 (fun z => absurd z (by omega)) (fun _ => ?_)
  refine pk_eq c 9 (fun z => absurd z (by omega)) (fun _ => ?_)
  refine zy_clear rfl (by omega) ?_
  intro s0 hs0
  have key : ∀ sb : Nat → Int32, (∀ j i, bt (sb j) i = true ↔ bt (s0 j) i = true ∨ (j = 31 * h + zw_i x ∧ i = zw_i y)) → post (nI (h + 1)) (nI (h + 1), nI (m + 1), nI (c + 1), sb) := by
    intro sb hs
    have hi := zw_i31 x hx
    refine hp sb ?_ ?_
    · intro j hj
      apply b_ext
      intro i _
      have t := hs j i
      rw [hs0 j, if_neg hj] at t
      have t2 : bt (sb j) i = true ↔ bt (sa j) i = true := t.trans ⟨fun z => z.elim id (fun z => absurd z.1 (by omega)), Or.inl⟩
      exact Bool.eq_iff_iff.mpr t2
    · intro u v hu hv
      rw [hs (31 * h + u) v, hs0 (31 * h + u), if_pos ⟨by omega, by omega⟩]
      constructor
      · intro z
        rcases z with z | z
        · exact absurd z zb_0T
        · exact ⟨by omega, z.2⟩
      · intro z
        exact Or.inr ⟨by omega, z.2⟩
  refine pk_eq x 2 (fun z => ?_) (fun z => ?_)
  · refine zy_pair_75 (a := 0) hh (by omega) hy ?_
    intro sb hs
    apply key
    rw [show zw_i x = 0 from if_neg (by omega)]
    exact hs
  · have e : (1 : Int32) + nI x = nI (1 + x) := nI_add 1 x
    rw [e]
    refine zy_pair_75 hh (by omega) hy ?_
    intro sb hs
    apply key
    rw [show zw_i x = 1 + x from if_pos (by omega)]
    exact hs
theorem zy_cat_30 {post : Int32 → SY → Prop} {J : Int32 → (Nat → Int32) → Prop} {h u : Nat} (hh : 2 ≤ h) (hh6 : h ≤ 6) (hu : u < 31)
    (hJ : ∀ x : Int32, (∀ v, v < 31 → (bt x v = true ↔ zy_P sa (h - 2) (h - 1) u v)) → J (nI (u + 1)) (upd sa (217 + u) x)) :
    ∀ (n y : Nat) (x : Int32), y ≤ 31 → 31 < y + n → (∀ v, v < 31 → (bt x v = true ↔ v < y ∧ zy_P sa (h - 2) (h - 1) u v)) → wY_cat_30 post J (nI u) (nI h) ys yp sa n x (nI y) := by
  intro n
  induction n with
  | zero => intro y x h1 h2; omega
  | succ n ih =>
    intro y x h1 h2 hs
    refine pk_le 31 y (fun z => ?_) (fun z => ?_)
    · have e : y = 31 := by omega
      subst e
      have e1 : (217 : Int32) + nI u = nI (217 + u) := nI_add 217 u
      rw [e1, nI_clamp (by omega)]
      refine And.intro (vp_in_nI (by omega) (by omega)) ?_
      intro a ea x2 ex
      rw [ea, ex, nI_1]
      exact hJ x (fun v hv => (hs v hv).trans ⟨fun t => t.2, fun t => ⟨hv, t⟩⟩)
    · refine zy_cuts (pk_sub (b := 2) hh) (pk_sub (b := 1) (by omega)) rfl rfl (by omega) (by omega) hu z (fun hP => ?_) (fun hP => ?_)
      · refine br_f (by decide) ?_
        intro x' ex' y' ey'
        rw [ey', nI_1]
        refine ih (y + 1) x' (by omega) (by omega) ?_
        intro v hv
        rw [ex', zb_orT, zb_oneT (by omega), hs v hv]
        constructor
        · intro t
          rcases t with t | t
          · exact ⟨by omega, t.2⟩
          · exact ⟨by omega, by rw [t]; exact hP⟩
        · intro t
          by_cases e : v = y
          · exact Or.inr e
          · exact Or.inl ⟨by omega, t.2⟩
      · refine br_t rfl ?_
        intro y' ey'
        rw [ey', nI_1]
        refine ih (y + 1) x (by omega) (by omega) ?_
        intro v hv
        rw [hs v hv]
        constructor
        · intro t
          exact ⟨by omega, t.2⟩
        · intro t
          by_cases e : v = y
          · rw [e] at t
            exact absurd t.2 hP
          · exact ⟨by omega, t.2⟩
theorem zy_cat_19 {post : Int32 → SY → Prop} {h m : Nat} (hh : 2 ≤ h) (hh6 : h ≤ 6)
    (hp : ∀ sb : Nat → Int32, (∀ j, j < 217 → ¬ (31 * (h - 2) ≤ j ∧ j < 31 * (h - 2) + 31) → sb j = sa j) → (∀ u v, u < 31 → v < 31 → (bt (sb (31 * (h - 2) + u)) v = true ↔ zy_P sa (h - 2) (h - 1) u v)) → post (nI (h - 1)) (nI (h - 1), nI (m + 1), yp, sb)) :
    ∀ (n x : Nat) (a : Nat → Int32), x ≤ 31 → 31 < x + n → (∀ j, j < 217 → a j = sa j) → (∀ u, u < x → ∀ v, v < 31 → (bt (a (217 + u)) v = true ↔ zy_P sa (h - 2) (h - 1) u v)) →
      wY_cat_19 post (nI h) (nI m) yp n (nI x) a := by
  intro n
  induction n with
  | zero => intro x a h1 h2; omega
  | succ n ih =>
    intro x a h1 h2 ha hb
    refine pk_le 31 x (fun z => ?_) (fun z => ?_)
    · have e : x = 31 := by omega
      subst e
      intro s es d ed
      rw [nI_1] at es
      have e1 : nI h - 1 = nI (h - 1) := pk_sub (b := 1) (by omega)
      rw [e1] at ed
      subst es ed
      have e2 : nI (h - 1) - 1 = nI (h - 2) := (pk_sub (b := 1) (by omega)).trans (congrArg nI (by omega))
      refine zy_copy (f := 7) (t := h - 2) rfl e2 (by omega) (by omega) (by omega) ?_
      intro sb hs
      refine hp sb ?_ ?_
      · intro j hj hn
        rw [hs j, if_neg hn]
        exact ha j hj
      · intro u v hu hv
        rw [hs (31 * (h - 2) + u), if_pos ⟨by omega, by omega⟩, Nat.add_sub_cancel_left]
        exact hb u hu v hv
    · refine Exists.intro 32 ?_
      refine zy_cat_30 hh hh6 z ?_ 32 0 0 (by omega) (by omega) (fun v _ => ⟨fun t => absurd t zb_0T, fun t => absurd t.1 (Nat.not_lt_zero _)⟩)
      intro r hr
      refine ih (x + 1) _ (by omega) (by omega) ?_ ?_
      · intro j hj
        rw [pk_un (by omega)]
        exact ha j hj
      · intro u hu v hv
        by_cases e : u = x
        · subst e
          rw [pk_us]
          exact (hr v hv).trans ⟨zy_P_cgr (by omega) (by omega) z hv ha, zy_P_cgr (by omega) (by omega) z hv (fun j hj => (ha j hj).symm)⟩
        · rw [pk_un (by omega)]
          exact hb u (by omega) v hv
theorem zy_cat {post : Int32 → SY → Prop} {h m : Nat} (hh : 2 ≤ h) (hh6 : h ≤ 6) (hm : m < 18)
    (hp : ∀ sb : Nat → Int32, (∀ j, j < 217 → ¬ (31 * (h - 2) ≤ j ∧ j < 31 * (h - 2) + 31) → sb j = sa j) → (∀ u v, u < 31 → v < 31 → (bt (sb (31 * (h - 2) + u)) v = true ↔ zy_P sa (h - 2) (h - 1) u v)) → post (nI (h - 1)) (nI (h - 1), nI (m + 1), yp, sb)) :
    wpY_cat post (nI h, nI m, yp, sa) := by
  unfold wpY_cat
  dsimp only
  refine pk_eq m 18 (fun z => absurd z (by omega)) (fun _ => ?_)
  refine pk_le 2 h (fun _ => ?_) (fun z => absurd z (by omega))
  refine br_t (by decide) ?_
  refine zy_clear (r := 7) rfl (by omega) ?_
  intro s0 hs0
  have e0 : ∀ j, j < 217 → s0 j = sa j := fun j hj => by rw [hs0 j, if_neg (by omega)]
  refine Exists.intro 32 (zy_cat_19 (sa := s0) hh hh6 ?_ 32 0 s0 (by omega) (by omega) (fun _ _ => rfl) (fun u hu => absurd hu (Nat.not_lt_zero _)))
  intro sb h1 h2
  refine hp sb (fun j hj hn => (h1 j hj hn).trans (e0 j hj)) ?_
  intro u v hu hv
  exact (h2 u v hu hv).trans ⟨zy_P_cgr (by omega) (by omega) hu hv e0, zy_P_cgr (by omega) (by omega) hu hv (fun j hj => (e0 j hj).symm)⟩
theorem zy_alt_33 {post : Int32 → SY → Prop} {h m : Nat} (hh : 2 ≤ h) (hh6 : h ≤ 6)
    (hp : ∀ sb : Nat → Int32, (∀ j, sb j = if 31 * (h - 2) ≤ j ∧ j < 31 * (h - 2) + 31 then sa j ||| sa (j + 31) else sa j) → post (nI (h - 1)) (nI (h - 1), nI m, yp, sb)) :
    ∀ (n x : Nat) (a : Nat → Int32), x ≤ 31 → 31 < x + n → (∀ j, a j = if 31 * (h - 2) ≤ j ∧ j < 31 * (h - 2) + x then sa j ||| sa (j + 31) else sa j) → wY_alt_33 post (nI (h - 1)) (nI m) yp n (nI x) a := by
  intro n
  induction n with
  | zero => intro x a h1 h2; omega
  | succ n ih =>
    intro x a h1 h2 ha
    refine pk_le 31 x (fun z => ?_) (fun z => ?_)
    · have e : x = 31 := by omega
      subst e
      exact hp a ha
    · have e2 : nI (h - 1) - 1 = nI (h - 2) := (pk_sub (b := 1) (by omega)).trans (congrArg nI (by omega))
      rw [e2, zy_ix, zy_ix, nI_clamp (by omega), nI_clamp (by omega)]
      refine And.intro (vp_in_nI (by omega) (by omega)) (And.intro (vp_in_nI (by omega) (by omega)) (And.intro (vp_in_nI (by omega) (by omega)) ?_))
      intro b eb x' ex
      rw [ex, nI_1]
      refine ih (x + 1) b (by omega) (by omega) ?_
      intro j
      rw [eb]
      by_cases e : j = 31 * (h - 2) + x
      · subst e
        rw [pk_us, if_pos ⟨by omega, by omega⟩, ha (31 * (h - 2) + x), if_neg (by omega), ha (31 * (h - 1) + x), if_neg (by omega)]
        exact congrArg (fun k => sa (31 * (h - 2) + x) ||| sa k) (by omega)
      · rw [pk_un e, ha j]
        by_cases c : 31 * (h - 2) ≤ j ∧ j < 31 * (h - 2) + x
        · rw [if_pos c, if_pos ⟨c.1, by omega⟩]
        · rw [if_neg c, if_neg (fun z => c ⟨z.1, by omega⟩)]
theorem zy_alt {post : Int32 → SY → Prop} {h m : Nat} (hh : 2 ≤ h) (hh6 : h ≤ 6) (hm : m < 18)
    (hp : ∀ sb : Nat → Int32, (∀ j, sb j = if 31 * (h - 2) ≤ j ∧ j < 31 * (h - 2) + 31 then sa j ||| sa (j + 31) else sa j) → post (nI (h - 1)) (nI (h - 1), nI (m + 1), yp, sb)) :
    wpY_alt post (nI h, nI m, yp, sa) := by
  unfold wpY_alt
  dsimp only
  refine pk_eq m 18 (fun z => absurd z (by omega)) (fun _ => ?_)
  refine pk_le 2 h (fun _ => ?_) (fun z => absurd z (by omega))
  refine br_t (by decide) ?_
  intro s es d ed
  rw [nI_1] at es
  have e1 : nI h - 1 = nI (h - 1) := pk_sub (b := 1) (by omega)
  rw [e1] at ed
  subst es ed
  exact Exists.intro 32 (zy_alt_33 hh hh6 hp 32 0 sa (by omega) (by omega) (fun j => by rw [if_neg (by omega)]))
end
end
section
/-! the reference's star, turn and define -/
def zy_U (a : Nat → Int32) (St : Nat → Nat → Prop) (r u v : Nat) : Prop :=
  ∃ p, p ≤ zw_l u ∧ ∃ q, q ≤ zw_l v ∧ 0 < p + q ∧ bt (a (31 * r + zw_h u p)) (zw_h v q) = true ∧ St (zw_t u p) (zw_t v q)
theorem zw_l0 : zw_l 0 = 0 := rfl
theorem zy_star_P {a sa : Nat → Int32} {St : Nat → Nat → Prop} {r t u v : Nat} (hr : r < 7) (hu : u < 31) (hv : v < 31) (ht : t = 31 * u + v)
    (hSt : St u v ↔ (u = 0 ∧ v = 0) ∨ zy_U sa St r u v) (ha : ∀ j, j < 217 → a j = sa j)
    (hb : ∀ u' v', u' < 31 → v' < 31 → (bt (a (217 + u')) v' = true ↔ (31 * u' + v' < t ∨ (u' = 0 ∧ v' = 0)) ∧ St u' v')) :
    zy_P a r 7 u v ↔ St u v ∧ ¬ (u = 0 ∧ v = 0) := by
  have hu4 := zw_le4 hu
  have hv4 := zw_le4 hv
  constructor
  · intro ⟨p, hp, q, hq, c0, c1, c2⟩
    have g0 := (zw_hd u hu p (by omega)).2
    have g1 := (zw_tl u hu p (by omega)).2
    have g2 := (zw_tl v hv q (by omega)).2
    have c0' : 0 < p + q := c0.elim id (fun z => absurd rfl z)
    have c2' := ((hb _ _ g1 g2).mp c2).2
    rw [ha _ (by omega)] at c1
    refine ⟨hSt.mpr (Or.inr ⟨p, hp, q, hq, c0', c1, c2'⟩), ?_⟩
    intro ⟨eu, ev⟩
    rw [eu, zw_l0] at hp
    rw [ev, zw_l0] at hq
    omega
  · intro ⟨hs, hn⟩
    rcases hSt.mp hs with z | ⟨p, hp, q, hq, c0, c1, c2⟩
    · exact absurd z hn
    · have g0 := (zw_hd u hu p (by omega)).2
      have g1 := (zw_tl u hu p (by omega)).2
      have g2 := (zw_tl v hv q (by omega)).2
      have l1 := zw_less u hu p (by omega)
      have l2 := zw_less v hv q (by omega)
      have l3 := l1.2 hp
      have l4 := l2.2 hq
      have l5 := l1.1
      refine ⟨p, hp, q, hq, Or.inl c0, ?_, (hb _ _ g1 g2).mpr ⟨Or.inl ?_, c2⟩⟩
      · rw [ha _ (by omega)]
        exact c1
      · clear hb hSt c1 c2 l1 l2
        by_cases z : 0 < p
        · have := l3 z
          omega
        · have := l4 (by omega)
          omega
section
variable {yd ys yp : Int32} {sa : Nat → Int32}
theorem zy_star_27 {post : Int32 → SY → Prop} {h m : Nat} {St : Nat → Nat → Prop} (hh : 1 ≤ h) (hh6 : h ≤ 6)
    (hSt : ∀ u v, u < 31 → v < 31 → (St u v ↔ (u = 0 ∧ v = 0) ∨ zy_U sa St (h - 1) u v))
    (hp : ∀ sb : Nat → Int32, (∀ j, j < 217 → ¬ (31 * (h - 1) ≤ j ∧ j < 31 * (h - 1) + 31) → sb j = sa j) → (∀ u v, u < 31 → v < 31 → (bt (sb (31 * (h - 1) + u)) v = true ↔ St u v)) → post (nI h) (nI h, nI (m + 1), yp, sb)) :
    ∀ (n t : Nat) (a : Nat → Int32), t ≤ 961 → 961 < t + n → (∀ j, j < 217 → a j = sa j) →
      (∀ u v, u < 31 → v < 31 → (bt (a (217 + u)) v = true ↔ (31 * u + v < t ∨ (u = 0 ∧ v = 0)) ∧ St u v)) → wY_star_27 post n (nI t) (nI h) (nI m) yp a := by
  intro n
  induction n with
  | zero => intro t a h1 h2; omega
  | succ n ih =>
    intro t a h1 h2 ha hb
    have e1 : nI h - 1 = nI (h - 1) := pk_sub (b := 1) hh
    refine pk_le 961 t (fun z => ?_) (fun z => ?_)
    · have e : t = 961 := by omega
      subst e
      refine zy_copy (f := 7) (t := h - 1) rfl e1 (by omega) (by omega) (by omega) ?_
      intro sb hs s es
      rw [nI_1] at es
      subst es
      refine hp sb ?_ ?_
      · intro j hj hn
        rw [hs j, if_neg hn]
        exact ha j hj
      · intro u v hu hv
        rw [hs (31 * (h - 1) + u), if_pos ⟨by omega, by omega⟩, Nat.add_sub_cancel_left]
        exact (hb u v hu hv).trans ⟨fun t => t.2, fun t => ⟨Or.inl (by omega), t⟩⟩
    · have ed : nI t / 31 = nI (t / 31) := pk_div (d := 31) (by omega) (by decide) (by decide)
      have er : nI t - nI t / 31 * 31 = nI (t % 31) := pk_rem (d := 31) (by omega) (by decide) (by decide)
      have hu : t / 31 < 31 := by omega
      have hv : t % 31 < 31 := by omega
      have ht : t = 31 * (t / 31) + t % 31 := by omega
      have key := zy_star_P (r := h - 1) (by omega) hu hv ht (hSt _ _ hu hv) ha hb
      refine And.intro (by decide) (And.intro (by decide) ?_)
      refine zy_cuts e1 (rx := h - 1) (ry := 7) rfl ed er (by omega) (by omega) hu hv (fun hP => ?_) (fun hP => ?_)
      · refine br_f (by decide) (And.intro (by decide) (And.intro (by decide) ?_))
        refine zy_put (r := 7) rfl ed er (by omega) hu hv ?_
        intro sb hs x ex
        rw [nI_1] at ex
        subst ex
        have hT := key.mp hP
        refine ih (t + 1) sb (by omega) (by omega) ?_ ?_
        · intro j hj
          rw [← ha j hj]
          apply b_ext
          intro i _
          exact Bool.eq_iff_iff.mpr ((hs j i).trans ⟨fun z => z.elim id (fun z => absurd z.1 (by omega)), Or.inl⟩)
        · intro u v hu' hv'
          rw [hs (217 + u) v, hb u v hu' hv']
          constructor
          · intro c
            rcases c with c | c
            · exact ⟨c.1.imp (fun z => by omega) id, c.2⟩
            · have c1 : u = t / 31 := by omega
              have c2 := c.2
              subst c1 c2
              exact ⟨Or.inl (by omega), hT.1⟩
          · intro c
            by_cases e : u = t / 31 ∧ v = t % 31
            · exact Or.inr ⟨by omega, e.2⟩
            · exact Or.inl ⟨c.1.imp (fun z => by omega) id, c.2⟩
      · refine br_t rfl ?_
        intro x ex
        rw [nI_1] at ex
        subst ex
        refine ih (t + 1) a (by omega) (by omega) ha ?_
        intro u v hu' hv'
        rw [hb u v hu' hv']
        constructor
        · intro c
          exact ⟨c.1.imp (fun z => by omega) id, c.2⟩
        · intro c
          by_cases e : u = t / 31 ∧ v = t % 31
          · obtain ⟨e1, e2⟩ := e
            subst e1 e2
            refine ⟨Or.inr ?_, c.2⟩
            exact Classical.byContradiction (fun z => hP (key.mpr ⟨c.2, z⟩))
          · exact ⟨c.1.imp (fun z => by omega) id, c.2⟩
theorem zy_star {post : Int32 → SY → Prop} {h m : Nat} {St : Nat → Nat → Prop} (hh : 1 ≤ h) (hh6 : h ≤ 6) (hm : m < 18)
    (hSt : ∀ u v, u < 31 → v < 31 → (St u v ↔ (u = 0 ∧ v = 0) ∨ zy_U sa St (h - 1) u v))
    (hp : ∀ sb : Nat → Int32, (∀ j, j < 217 → ¬ (31 * (h - 1) ≤ j ∧ j < 31 * (h - 1) + 31) → sb j = sa j) → (∀ u v, u < 31 → v < 31 → (bt (sb (31 * (h - 1) + u)) v = true ↔ St u v)) → post (nI h) (nI h, nI (m + 1), yp, sb)) :
    wpY_star post (nI h, nI m, yp, sa) := by
  unfold wpY_star
  dsimp only
  refine pk_eq m 18 (fun z => absurd z (by omega)) (fun _ => ?_)
  refine pk_eq h 0 (fun z => absurd z (by omega)) (fun _ => ?_)
  refine br_t (by decide) ?_
  refine zy_clear (r := 7) rfl (by omega) ?_
  intro s0 hs0
  refine zy_put (sa := s0) (r := 7) (u := 0) (v := 0) rfl rfl rfl (by omega) (by omega) (by omega) ?_
  intro s1 hs1
  refine Exists.intro 962 (zy_star_27 (sa := sa) hh hh6 hSt hp 962 0 s1 (by omega) (by omega) ?_ ?_)
  · intro j hj
    have e0 : s0 j = sa j := by rw [hs0 j, if_neg (by omega)]
    rw [← e0]
    apply b_ext
    intro i _
    exact Bool.eq_iff_iff.mpr ((hs1 j i).trans ⟨fun z => z.elim id (fun z => absurd z.1 (by omega)), Or.inl⟩)
  · intro u v hu hv
    rw [hs1 (217 + u) v, hs0 (217 + u), if_pos ⟨by omega, by omega⟩]
    constructor
    · intro c
      rcases c with c | c
      · exact absurd c zb_0T
      · have c1 : u = 0 := by omega
        have c2 := c.2
        subst c1 c2
        exact ⟨Or.inr ⟨rfl, rfl⟩, (hSt 0 0 hu hv).mpr (Or.inl ⟨rfl, rfl⟩)⟩
    · intro c
      rcases c.1 with z | z
      · exact absurd z (Nat.not_lt_zero _)
      · exact Or.inr ⟨by omega, z.2⟩
theorem zy_turn_27 {post : Int32 → SY → Prop} {J : Int32 → Int32 → Int32 → Int32 → (Nat → Int32) → Prop} {h m u : Nat} (hh : 1 ≤ h) (hh6 : h ≤ 6) (hu : u < 31)
    (hJ : ∀ a : Nat → Int32, (∀ j, j < 217 → a j = sa j) → (∀ u' v, u' < 31 → v < 31 → (bt (a (217 + u')) v = true ↔ 31 * u' + v < 31 * (u + 1) ∧ bt (sa (31 * (h - 1) + v)) u' = true)) → J (nI (u + 1)) (nI h) (nI m) yp a) :
    ∀ (n y : Nat) (a : Nat → Int32), y ≤ 31 → 31 < y + n → (∀ j, j < 217 → a j = sa j) → (∀ u' v, u' < 31 → v < 31 → (bt (a (217 + u')) v = true ↔ 31 * u' + v < 31 * u + y ∧ bt (sa (31 * (h - 1) + v)) u' = true)) →
      wY_turn_27 post J (nI u) n (nI y) (nI h) (nI m) yp a := by
  intro n
  induction n with
  | zero => intro y a h1 h2; omega
  | succ n ih =>
    intro y a h1 h2 ha hb
    refine pk_le 31 y (fun z => ?_) (fun z => ?_)
    · have e : y = 31 := by omega
      subst e
      intro x ex
      rw [nI_1] at ex
      subst ex
      refine hJ a ha ?_
      intro u' v hu' hv
      exact (hb u' v hu' hv).trans ⟨fun c => ⟨by omega, c.2⟩, fun c => ⟨by omega, c.2⟩⟩
    · refine zy_has (r := h - 1) (u := y) (v := u) (pk_sub (b := 1) hh) rfl rfl (by omega) z hu (fun hP => ?_) (fun hP => ?_)
      · refine br_f (by decide) ?_
        refine zy_put (r := 7) (u := u) (v := y) rfl rfl rfl (by omega) hu z ?_
        intro sb hs x ex
        rw [nI_1] at ex
        subst ex
        rw [ha _ (by omega)] at hP
        refine ih (y + 1) sb (by omega) (by omega) ?_ ?_
        · intro j hj
          rw [← ha j hj]
          apply b_ext
          intro i _
          exact Bool.eq_iff_iff.mpr ((hs j i).trans ⟨fun z => z.elim id (fun z => absurd z.1 (by omega)), Or.inl⟩)
        · intro u' v hu' hv
          rw [hs (217 + u') v, hb u' v hu' hv]
          constructor
          · intro c
            rcases c with c | c
            · exact ⟨by omega, c.2⟩
            · have c1 : u' = u := by omega
              have c2 := c.2
              subst c1 c2
              exact ⟨by omega, hP⟩
          · intro c
            by_cases e : u' = u ∧ v = y
            · exact Or.inr ⟨by omega, e.2⟩
            · exact Or.inl ⟨by omega, c.2⟩
      · refine br_t rfl ?_
        intro x ex
        rw [nI_1] at ex
        subst ex
        rw [ha _ (by omega)] at hP
        refine ih (y + 1) a (by omega) (by omega) ha ?_
        intro u' v hu' hv
        rw [hb u' v hu' hv]
        constructor
        · intro c
          exact ⟨by omega, c.2⟩
        · intro c
          by_cases e : u' = u ∧ v = y
          · obtain ⟨e1, e2⟩ := e
            subst e1 e2
            exact absurd c.2 hP
          · exact ⟨by omega, c.2⟩
theorem zy_turn_19 {post : Int32 → SY → Prop} {h m : Nat} (hh : 1 ≤ h) (hh6 : h ≤ 6)
    (hp : ∀ sb : Nat → Int32, (∀ j, j < 217 → ¬ (31 * (h - 1) ≤ j ∧ j < 31 * (h - 1) + 31) → sb j = sa j) → (∀ u v, u < 31 → v < 31 → (bt (sb (31 * (h - 1) + u)) v = true ↔ bt (sa (31 * (h - 1) + v)) u = true)) → post (nI h) (nI h, nI (m + 1), yp, sb)) :
    ∀ (n x : Nat) (a : Nat → Int32), x ≤ 31 → 31 < x + n → (∀ j, j < 217 → a j = sa j) → (∀ u' v, u' < 31 → v < 31 → (bt (a (217 + u')) v = true ↔ 31 * u' + v < 31 * x ∧ bt (sa (31 * (h - 1) + v)) u' = true)) →
      wY_turn_19 post n (nI x) (nI h) (nI m) yp a := by
  intro n
  induction n with
  | zero => intro x a h1 h2; omega
  | succ n ih =>
    intro x a h1 h2 ha hb
    refine pk_le 31 x (fun z => ?_) (fun z => ?_)
    · have e : x = 31 := by omega
      subst e
      refine zy_copy (f := 7) (t := h - 1) rfl (pk_sub (b := 1) hh) (by omega) (by omega) (by omega) ?_
      intro sb hs s es
      rw [nI_1] at es
      subst es
      refine hp sb ?_ ?_
      · intro j hj hn
        rw [hs j, if_neg hn]
        exact ha j hj
      · intro u v hu hv
        rw [hs (31 * (h - 1) + u), if_pos ⟨by omega, by omega⟩, Nat.add_sub_cancel_left]
        exact (hb u v hu hv).trans ⟨fun t => t.2, fun t => ⟨by omega, t⟩⟩
    · refine Exists.intro 32 (zy_turn_27 (sa := sa) hh hh6 z ?_ 32 0 a (by omega) (by omega) ha hb)
      intro b hb1 hb2
      exact ih (x + 1) b (by omega) (by omega) hb1 hb2
theorem zy_turn {post : Int32 → SY → Prop} {h m : Nat} (hh : 1 ≤ h) (hh6 : h ≤ 6) (hm : m < 18)
    (hp : ∀ sb : Nat → Int32, (∀ j, j < 217 → ¬ (31 * (h - 1) ≤ j ∧ j < 31 * (h - 1) + 31) → sb j = sa j) → (∀ u v, u < 31 → v < 31 → (bt (sb (31 * (h - 1) + u)) v = true ↔ bt (sa (31 * (h - 1) + v)) u = true)) → post (nI h) (nI h, nI (m + 1), yp, sb)) :
    wpY_turn post (nI h, nI m, yp, sa) := by
  unfold wpY_turn
  dsimp only
  refine pk_eq m 18 (fun z => absurd z (by omega)) (fun _ => ?_)
  refine pk_eq h 0 (fun z => absurd z (by omega)) (fun _ => ?_)
  refine br_t (by decide) ?_
  refine zy_clear (r := 7) rfl (by omega) ?_
  intro s0 hs0
  refine Exists.intro 32 (zy_turn_19 (sa := sa) hh hh6 hp 32 0 s0 (by omega) (by omega) ?_ ?_)
  · intro j hj
    rw [hs0 j, if_neg (by omega)]
  · intro u v hu hv
    rw [hs0 (217 + u), if_pos ⟨by omega, by omega⟩]
    exact ⟨fun c => absurd c zb_0T, fun c => absurd c.1 (Nat.not_lt_zero _)⟩
theorem zy_define {post : Int32 → SY → Prop} {h : Nat} (hh : 1 ≤ h) (hh6 : h ≤ 6)
    (hp : ∀ sb : Nat → Int32, (∀ u, u < 31 → sb (186 + u) = sa (31 * (h - 1) + u)) → post (nI h) (0, 0, 0, sb)) :
    wpY_define post (nI h, ys, yp, sa) := by
  refine pk_eq h 0 (fun z => absurd z (by omega)) (fun _ => ?_)
  refine zy_copy (f := h - 1) (t := 6) (pk_sub (b := 1) hh) rfl (by omega) (by omega) (by omega) ?_
  intro sb hs
  refine hp sb ?_
  intro u hu
  rw [hs (186 + u), if_pos ⟨by omega, by omega⟩]
  exact congrArg (fun k => sa (31 * (h - 1) + k)) (by omega)
end
end
section
/-! the component's making methods -/
theorem zx_b0 : vp_nar .boolean 0 = 0 := rfl
theorem zx_b1 : vp_nar .boolean 1 = 1 := rfl
section
variable {fh fm fc fp uf ul ue fr : Int32} {aw af al ae ax ay ao au ak ar aq an : Nat → Int32}
theorem zx_pair_171 {post : Int32 → SX → Prop} {h m c : Nat} (hp : post (nI (h + 1)) (nI (h + 1), nI (m + 1), nI (c + 1), fp, uf, ul, ue, fr, aw, af, al, ae, ax, ay, ao, au, ak, ar, aq, an)) : wX_pair_171 post (nI h) (nI m) (nI c) fp uf ul ue fr aw af al ae ax ay ao au ak ar aq an := by
  intro x ex y ey z ez
  rw [nI_1] at ex ey ez
  subst ex ey ez
  exact hp
theorem zx_pair_93a {post : Int32 → SX → Prop} {h m c p x y : Nat} {z0 : Int32} (hh : h < 6) (hq : p < 9)
    (hp : post (nI (h + 1)) (nI (h + 1), nI (m + 1), nI (c + 1), nI (p + 1), uf, ul, ue, fr, aw, upd af h z0, upd al h z0, upd ae h 0, upd ax p (nI x), upd ay p (nI y), upd ao p 0, au, ak, ar, aq, an)) :
    wX_pair_93 post (nI x) (nI y) 0 z0 (nI h) (nI m) (nI c) (nI p) uf ul ue fr aw af al ae ax ay ao au ak ar aq an := by
  have hin : vp_in (nI h) 6 := vp_in_nI hh (by decide)
  have pin : vp_in (nI p) 9 := vp_in_nI hq (by decide)
  unfold wX_pair_93
  rw [nI_clamp (n := h) (by omega), nI_clamp (n := p) (by omega), zx_b0]
  refine And.intro hin ?_
  intro f ef
  refine And.intro hin ?_
  intro l el
  refine And.intro hin ?_
  intro e ee
  refine br_t rfl ?_
  refine And.intro pin ?_
  intro x' ex
  refine And.intro pin ?_
  intro y' ey
  refine And.intro pin ?_
  intro o eo q eq
  rw [nI_1] at eq
  subst ef el ee ex ey eo eq
  exact zx_pair_171 hp
theorem zx_pair_93b {post : Int32 → SX → Prop} {h m c : Nat} {x y z0 : Int32} (hh : h < 6)
    (hp : post (nI (h + 1)) (nI (h + 1), nI (m + 1), nI (c + 1), fp, uf, ul, ue, fr, aw, upd af h z0, upd al h z0, upd ae h 1, ax, ay, ao, au, ak, ar, aq, an)) :
    wX_pair_93 post x y 1 z0 (nI h) (nI m) (nI c) fp uf ul ue fr aw af al ae ax ay ao au ak ar aq an := by
  have hin : vp_in (nI h) 6 := vp_in_nI hh (by decide)
  unfold wX_pair_93
  rw [nI_clamp (n := h) (by omega), zx_b1]
  refine And.intro hin ?_
  intro f ef
  refine And.intro hin ?_
  intro l el
  refine And.intro hin ?_
  intro e ee
  refine br_f (by decide) ?_
  subst ef el ee
  exact zx_pair_171 hp
theorem zx_pair {post : Int32 → SX → Prop} {h m c p x y : Nat} (hh : h < 6) (hm : m < 18) (hc : c < 9) (hq : p < 9) (hx : x ≤ 2) (hy : y ≤ 2)
    (hp1 : x = 2 ∧ y = 2 → post (nI (h + 1)) (nI (h + 1), nI (m + 1), nI (c + 1), nI p, uf, ul, ue, fr, upd aw h (nI p), upd af h 0, upd al h 0, upd ae h 1, ax, ay, ao, au, ak, ar, aq, an))
    (hp2 : ¬ (x = 2 ∧ y = 2) → post (nI (h + 1)) (nI (h + 1), nI (m + 1), nI (c + 1), nI (p + 1), uf, ul, ue, fr, upd aw h (nI p), upd af h ((1 : Int32) <<< (nI p &&& 31)), upd al h ((1 : Int32) <<< (nI p &&& 31)), upd ae h 0, upd ax p (nI x), upd ay p (nI y), upd ao p 0, au, ak, ar, aq, an)) :
    wpX_pair post (nI h, nI m, nI c, nI p, uf, ul, ue, fr, aw, af, al, ae, ax, ay, ao, au, ak, ar, aq, an) (nI x) (nI y) := by
  refine br_f (nI_pos (by omega)) (br_f (nI_nlt (a := 2) hx (by decide)) (br_f (nI_pos (by omega)) (br_t (nI_le (b := 2) hy (by decide)) ?_)))
  refine pk_eq m 18 (fun z => absurd z (by omega)) (fun _ => ?_)
  refine pk_eq h 6 (fun z => absurd z (by omega)) (fun _ => ?_)
  refine pk_eq c 9 (fun z => absurd z (by omega)) (fun _ => ?_)
  refine And.intro (vp_in_nI hh (by decide)) ?_
  intro w ew
  rw [nI_clamp (n := h) (by omega)] at ew
  subst ew
  refine pk_eq x 2 (fun zx => ?_) (fun zx => ?_)
  · refine pk_eq y 2 (fun zy => ?_) (fun zy => ?_)
    · exact br_f (by decide) (zx_pair_93b hh (hp1 ⟨zx, zy⟩))
    · exact br_t rfl (zx_pair_93a hh hq (hp2 (fun z => zy z.2)))
  · exact br_t rfl (zx_pair_93a hh hq (hp2 (fun z => zx z.1)))
theorem zx_link_2 {post : SX → Prop} {x1 x2 : Int32} (hp : ∀ o : Nat → Int32, (∀ p q, bt (o p) q = true ↔ bt (ao p) q = true ∨ (p < 9 ∧ bt x1 p = true ∧ bt x2 q = true)) → post (fh, fm, fc, fp, uf, ul, ue, fr, aw, af, al, ae, ax, ay, o, au, ak, ar, aq, an)) :
    ∀ (n i : Nat) (o : Nat → Int32), i ≤ 9 → 9 < i + n → (∀ p q, bt (o p) q = true ↔ bt (ao p) q = true ∨ (p < i ∧ bt x1 p = true ∧ bt x2 q = true)) → wX_link_2 post x1 x2 fh fm fc fp uf ul ue fr n (nI i) aw af al ae ax ay o au ak ar aq an := by
  intro n
  induction n with
  | zero => intro i o h1 h2; omega
  | succ n ih =>
    intro i o h1 h2 ho
    refine pk_le 9 i (fun z => ?_) (fun z => ?_)
    · have e : i = 9 := by omega
      subst e
      exact hp o ho
    · have hb : ((x1 >>> (nI i &&& 31)) &&& 1) = 1 ↔ bt x1 i = true := zb_bitI (by omega)
      rw [hb, nI_clamp (n := i) (by omega)]
      refine br_c (fun t => ?_) (fun t => ?_)
      · refine And.intro (vp_in_nI z (by decide)) (And.intro (vp_in_nI z (by decide)) ?_)
        intro o' eo x ex
        rw [nI_1] at ex
        subst ex
        refine ih (i + 1) o' (by omega) (by omega) ?_
        intro p q
        rw [eo]
        by_cases e : p = i
        · subst e
          rw [pk_us, zb_orT, ho p q]
          constructor
          · intro c
            rcases c with c | c
            · exact c.imp id (fun c => ⟨by omega, c.2⟩)
            · exact Or.inr ⟨by omega, t, c⟩
          · intro c
            rcases c with c | c
            · exact Or.inl (Or.inl c)
            · exact Or.inr c.2.2
        · rw [pk_un e, ho p q]
          exact ⟨fun c => c.imp id (fun c => ⟨by omega, c.2⟩), fun c => c.imp id (fun c => ⟨by omega, c.2⟩)⟩
      · intro x ex
        rw [nI_1] at ex
        subst ex
        refine ih (i + 1) o (by omega) (by omega) ?_
        intro p q
        rw [ho p q]
        constructor
        · exact fun c => c.imp id (fun c => ⟨by omega, c.2⟩)
        · intro c
          rcases c with c | c
          · exact Or.inl c
          · by_cases e : p = i
            · rw [e] at c
              exact absurd c.2.1 t
            · exact Or.inr ⟨by omega, c.2⟩
theorem zx_link {post : SX → Prop} {x1 x2 : Int32} (hp : ∀ o : Nat → Int32, (∀ p q, bt (o p) q = true ↔ bt (ao p) q = true ∨ (p < 9 ∧ bt x1 p = true ∧ bt x2 q = true)) → post (fh, fm, fc, fp, uf, ul, ue, fr, aw, af, al, ae, ax, ay, o, au, ak, ar, aq, an)) : wpX_link post (fh, fm, fc, fp, uf, ul, ue, fr, aw, af, al, ae, ax, ay, ao, au, ak, ar, aq, an) x1 x2 :=
  Exists.intro 10 (zx_link_2 hp 10 0 ao (by omega) (by omega) (fun p q => ⟨Or.inl, fun c => c.elim id (fun c => absurd c.1 (Nat.not_lt_zero _))⟩))
theorem zx_refused {post : Int32 → Prop} {h m k : Nat} (hm : m < 18) (hk : k ≤ h) (hh : h ≤ 6) (hp : post 0) : wpX_refused post (nI h, nI m, fc, fp, uf, ul, ue, fr, aw, af, al, ae, ax, ay, ao, au, ak, ar, aq, an) (nI k) := by
  refine pk_eq m 18 (fun z => absurd z (by omega)) (fun _ => ?_)
  exact pk_le k h (fun _ => hp) (fun z => absurd z (by omega))
theorem zx_cat_144 {post : Int32 → SX → Prop} {h m : Nat} {e z : Int32} (hh : 2 ≤ h) (hh6 : h ≤ 6) (ez : vp_nar .boolean z = e)
    (hp : post (nI (h - 1)) (nI (h - 1), nI (m + 1), fc, fp, uf, ul, ue, fr, aw, af, al, upd ae (h - 2) e, ax, ay, ao, au, ak, ar, aq, an)) : wX_cat_144 post (nI (h - 1)) z (nI (h - 2)) (nI h) (nI m) fc fp uf ul ue fr aw af al ae ax ay ao au ak ar aq an := by
  unfold wX_cat_144
  rw [nI_clamp (n := h - 2) (by omega), ez]
  refine And.intro (vp_in_nI (by omega) (by decide)) ?_
  intro a ea m' em
  rw [nI_1] at em
  subst ea em
  exact hp
theorem zx_cat_115 {post : Int32 → SX → Prop} {h m : Nat} {l : Int32} (hh : 2 ≤ h) (hh6 : h ≤ 6) (hex : ae (h - 2) = 0 ∨ ae (h - 2) = 1) (hey : ae (h - 1) = 0 ∨ ae (h - 1) = 1)
    (hp : ∀ e : Int32, (e = 0 ∨ e = 1) → (e = 1 ↔ ae (h - 2) = 1 ∧ ae (h - 1) = 1) → post (nI (h - 1)) (nI (h - 1), nI (m + 1), fc, fp, uf, ul, ue, fr, aw, af, upd al (h - 2) l, upd ae (h - 2) e, ax, ay, ao, au, ak, ar, aq, an)) :
    wX_cat_115 post (nI (h - 1)) (nI (h - 2)) l (nI (h - 2)) (nI h) (nI m) fc fp uf ul ue fr aw af al ae ax ay ao au ak ar aq an := by
  have hx : vp_in (nI (h - 2)) 6 := vp_in_nI (by omega) (by decide)
  have hy : vp_in (nI (h - 1)) 6 := vp_in_nI (by omega) (by decide)
  unfold wX_cat_115
  rw [nI_clamp (n := h - 2) (by omega), nI_clamp (n := h - 1) (by omega)]
  refine And.intro hx ?_
  intro l' el
  subst el
  refine And.intro hx (br_c (fun z => ?_) (fun z => And.intro hy (br_c (fun y => ?_) (fun y => ?_))))
  · exact zx_cat_144 hh hh6 zx_b0 (hp 0 (Or.inl rfl) ⟨fun t => absurd t (by decide), fun t => absurd (z.symm.trans t.1) (by decide)⟩)
  · exact zx_cat_144 hh hh6 zx_b0 (hp 0 (Or.inl rfl) ⟨fun t => absurd t (by decide), fun t => absurd (y.symm.trans t.2) (by decide)⟩)
  · exact zx_cat_144 hh hh6 zx_b1 (hp 1 (Or.inr rfl) ⟨fun _ => ⟨hex.resolve_left z, hey.resolve_left y⟩, fun _ => rfl⟩)
theorem zx_cat_78 {post : Int32 → SX → Prop} {h m : Nat} {f : Int32} (hh : 2 ≤ h) (hh6 : h ≤ 6) (hex : ae (h - 2) = 0 ∨ ae (h - 2) = 1) (hey : ae (h - 1) = 0 ∨ ae (h - 1) = 1)
    (hp : ∀ l e : Int32, (∀ p, bt l p = true ↔ (ae (h - 1) = 1 ∧ bt (al (h - 2)) p = true) ∨ bt (al (h - 1)) p = true) → (e = 0 ∨ e = 1) → (e = 1 ↔ ae (h - 2) = 1 ∧ ae (h - 1) = 1) →
      post (nI (h - 1)) (nI (h - 1), nI (m + 1), fc, fp, uf, ul, ue, fr, aw, upd af (h - 2) f, upd al (h - 2) l, upd ae (h - 2) e, ax, ay, ao, au, ak, ar, aq, an)) :
    wX_cat_78 post (nI (h - 1)) (nI (h - 2)) f (nI (h - 2)) (nI h) (nI m) fc fp uf ul ue fr aw af al ae ax ay ao au ak ar aq an := by
  have hx : vp_in (nI (h - 2)) 6 := vp_in_nI (by omega) (by decide)
  have hy : vp_in (nI (h - 1)) 6 := vp_in_nI (by omega) (by decide)
  unfold wX_cat_78
  rw [nI_clamp (n := h - 2) (by omega), nI_clamp (n := h - 1) (by omega)]
  refine And.intro hx ?_
  intro f' ef
  subst ef
  refine And.intro hy (br_c (fun z => And.intro hy ?_) (fun z => And.intro hx (And.intro hy ?_)))
  · refine zx_cat_115 hh hh6 hex hey (fun e h1 h2 => hp _ e ?_ h1 h2)
    intro p
    exact ⟨Or.inr, fun t => t.elim (fun t => absurd (z.symm.trans t.1) (by decide)) id⟩
  · refine zx_cat_115 hh hh6 hex hey (fun e h1 h2 => hp _ e ?_ h1 h2)
    intro p
    rw [zb_orT]
    exact ⟨fun t => t.imp (fun t => ⟨hey.resolve_left z, t⟩) id, fun t => t.imp (fun t => t.2) id⟩
theorem zx_cat {post : Int32 → SX → Prop} {h m : Nat} (hh : 2 ≤ h) (hh6 : h ≤ 6) (hm : m < 18) (hex : ae (h - 2) = 0 ∨ ae (h - 2) = 1) (hey : ae (h - 1) = 0 ∨ ae (h - 1) = 1)
    (hp : ∀ (o : Nat → Int32) (f l e : Int32), (∀ p q, bt (o p) q = true ↔ bt (ao p) q = true ∨ (p < 9 ∧ bt (al (h - 2)) p = true ∧ bt (af (h - 1)) q = true)) →
      (∀ p, bt f p = true ↔ bt (af (h - 2)) p = true ∨ (ae (h - 2) = 1 ∧ bt (af (h - 1)) p = true)) →
      (∀ p, bt l p = true ↔ (ae (h - 1) = 1 ∧ bt (al (h - 2)) p = true) ∨ bt (al (h - 1)) p = true) → (e = 0 ∨ e = 1) → (e = 1 ↔ ae (h - 2) = 1 ∧ ae (h - 1) = 1) →
      post (nI (h - 1)) (nI (h - 1), nI (m + 1), fc, fp, uf, ul, ue, fr, aw, upd af (h - 2) f, upd al (h - 2) l, upd ae (h - 2) e, ax, ay, o, au, ak, ar, aq, an)) :
    wpX_cat post (nI h, nI m, fc, fp, uf, ul, ue, fr, aw, af, al, ae, ax, ay, ao, au, ak, ar, aq, an) := by
  have hx : vp_in (nI (h - 2)) 6 := vp_in_nI (by omega) (by decide)
  have hy : vp_in (nI (h - 1)) 6 := vp_in_nI (by omega) (by decide)
  unfold wpX_cat
  dsimp only
  refine zx_refused (k := 2) hm hh hh6 (br_t (by decide) ?_)
  intro x2 e2 x3 e3
  have t2 : x2 = nI (h - 1) := e2.trans (pk_sub (b := 1) (by omega))
  have t3 : x3 = nI (h - 2) := e3.trans (pk_sub (b := 2) (by omega))
  subst t2 t3
  rw [nI_clamp (n := h - 2) (by omega), nI_clamp (n := h - 1) (by omega)]
  refine And.intro hx (And.intro hy (zx_link ?_))
  intro o ho
  refine And.intro hx (br_c (fun z => And.intro hx ?_) (fun z => And.intro hx (And.intro hy ?_)))
  · refine zx_cat_78 hh hh6 hex hey (fun l e h1 h2 h3 => hp o _ l e ho ?_ h1 h2 h3)
    intro p
    exact ⟨Or.inl, fun t => t.elim id (fun t => absurd (z.symm.trans t.1) (by decide))⟩
  · refine zx_cat_78 hh hh6 hex hey (fun l e h1 h2 h3 => hp o _ l e ho ?_ h1 h2 h3)
    intro p
    rw [zb_orT]
    exact ⟨fun t => t.imp id (fun t => ⟨hex.resolve_left z, t⟩), fun t => t.imp id (fun t => t.2)⟩
theorem zx_alt_92 {post : Int32 → SX → Prop} {h m : Nat} {e z : Int32} (hh : 2 ≤ h) (hh6 : h ≤ 6) (ez : vp_nar .boolean z = e)
    (hp : post (nI (h - 1)) (nI (h - 1), nI (m + 1), fc, fp, uf, ul, ue, fr, aw, af, al, upd ae (h - 2) e, ax, ay, ao, au, ak, ar, aq, an)) : wX_alt_92 post (nI (h - 1)) z (nI (h - 2)) (nI h) (nI m) fc fp uf ul ue fr aw af al ae ax ay ao au ak ar aq an := by
  unfold wX_alt_92
  rw [nI_clamp (n := h - 2) (by omega), ez]
  refine And.intro (vp_in_nI (by omega) (by decide)) ?_
  intro a ea m' em
  rw [nI_1] at em
  subst ea em
  exact hp
theorem zx_alt {post : Int32 → SX → Prop} {h m : Nat} (hh : 2 ≤ h) (hh6 : h ≤ 6) (hm : m < 18) (hex : ae (h - 2) = 0 ∨ ae (h - 2) = 1) (hey : ae (h - 1) = 0 ∨ ae (h - 1) = 1)
    (hp : ∀ e : Int32, (e = 0 ∨ e = 1) → (e = 1 ↔ ae (h - 2) = 1 ∨ ae (h - 1) = 1) →
      post (nI (h - 1)) (nI (h - 1), nI (m + 1), fc, fp, uf, ul, ue, fr, aw, upd af (h - 2) (af (h - 2) ||| af (h - 1)), upd al (h - 2) (al (h - 2) ||| al (h - 1)), upd ae (h - 2) e, ax, ay, ao, au, ak, ar, aq, an)) :
    wpX_alt post (nI h, nI m, fc, fp, uf, ul, ue, fr, aw, af, al, ae, ax, ay, ao, au, ak, ar, aq, an) := by
  have hx : vp_in (nI (h - 2)) 6 := vp_in_nI (by omega) (by decide)
  have hy : vp_in (nI (h - 1)) 6 := vp_in_nI (by omega) (by decide)
  unfold wpX_alt
  dsimp only
  refine zx_refused (k := 2) hm hh hh6 (br_t (by decide) ?_)
  intro x2 e2 x3 e3
  have t2 : x2 = nI (h - 1) := e2.trans (pk_sub (b := 1) (by omega))
  have t3 : x3 = nI (h - 2) := e3.trans (pk_sub (b := 2) (by omega))
  subst t2 t3
  rw [nI_clamp (n := h - 2) (by omega), nI_clamp (n := h - 1) (by omega)]
  refine And.intro hx (And.intro hy (And.intro hx ?_))
  intro f ef
  refine And.intro hx (And.intro hy (And.intro hx ?_))
  intro l el
  subst ef el
  refine And.intro hx (br_c (fun z => And.intro hy (br_c (fun y => ?_) (fun y => ?_))) (fun z => ?_))
  · exact zx_alt_92 hh hh6 zx_b0 (hp 0 (Or.inl rfl) ⟨fun t => absurd t (by decide), fun t => t.elim (fun t => absurd (z.symm.trans t) (by decide)) (fun t => absurd (y.symm.trans t) (by decide))⟩)
  · exact zx_alt_92 hh hh6 zx_b1 (hp 1 (Or.inr rfl) ⟨fun _ => Or.inr (hey.resolve_left y), fun _ => rfl⟩)
  · exact zx_alt_92 hh hh6 zx_b1 (hp 1 (Or.inr rfl) ⟨fun _ => Or.inl (hex.resolve_left z), fun _ => rfl⟩)
theorem zx_star {post : Int32 → SX → Prop} {h m : Nat} (hh : 1 ≤ h) (hh6 : h ≤ 6) (hm : m < 18)
    (hp : ∀ o : Nat → Int32, (∀ p q, bt (o p) q = true ↔ bt (ao p) q = true ∨ (p < 9 ∧ bt (al (h - 1)) p = true ∧ bt (af (h - 1)) q = true)) →
      post (nI h) (nI h, nI (m + 1), fc, fp, uf, ul, ue, fr, aw, af, al, upd ae (h - 1) 1, ax, ay, o, au, ak, ar, aq, an)) :
    wpX_star post (nI h, nI m, fc, fp, uf, ul, ue, fr, aw, af, al, ae, ax, ay, ao, au, ak, ar, aq, an) := by
  have hy : vp_in (nI (h - 1)) 6 := vp_in_nI (by omega) (by decide)
  unfold wpX_star
  dsimp only
  refine zx_refused (k := 1) hm hh hh6 (br_t (by decide) ?_)
  intro x2 e2
  have t2 : x2 = nI (h - 1) := e2.trans (pk_sub (b := 1) (by omega))
  subst t2
  rw [nI_clamp (n := h - 1) (by omega), zx_b1]
  refine And.intro hy (And.intro hy (zx_link ?_))
  intro o ho
  refine And.intro hy ?_
  intro a ea m' em
  rw [nI_1] at em
  subst ea em
  exact hp o ho
theorem zx_turn_24 {post : Int32 → SX → Prop} {m p b : Nat} (hq : p ≤ 9)
    (hp : ∀ x y : Nat → Int32, (∀ j, x j = if b ≤ j ∧ j < p then ay j else ax j) → (∀ j, y j = if b ≤ j ∧ j < p then ax j else ay j) → post fh (fh, nI (m + 1), fc, nI p, uf, ul, ue, fr, aw, af, al, ae, x, y, ao, au, ak, ar, aq, an)) :
    ∀ (n i : Nat) (x y : Nat → Int32), b ≤ i → i ≤ p → p < i + n → (∀ j, x j = if b ≤ j ∧ j < i then ay j else ax j) → (∀ j, y j = if b ≤ j ∧ j < i then ax j else ay j) → wX_turn_24 post fh (nI m) fc (nI p) uf ul ue fr n (nI i) aw af al ae x y ao au ak ar aq an := by
  intro n
  induction n with
  | zero => intro i x y h0 h1 h2; omega
  | succ n ih =>
    intro i x y h0 h1 h2 hx hy
    refine pk_le p i (fun z => ?_) (fun z => ?_)
    · have e : i = p := by omega
      subst e
      intro m' em
      rw [nI_1] at em
      subst em
      exact hp x y hx hy
    · have hin : vp_in (nI i) 9 := vp_in_nI (by omega) (by decide)
      rw [nI_clamp (n := i) (by omega)]
      refine And.intro hin ?_
      intro t et
      refine And.intro hin (And.intro hin ?_)
      intro x' ex
      refine And.intro hin ?_
      intro y' ey j ej
      rw [nI_1] at ej
      subst ej
      refine ih (i + 1) x' y' (by omega) (by omega) (by omega) ?_ ?_
      · intro j
        rw [ex]
        by_cases e : j = i
        · subst e
          rw [pk_us, hy j, if_neg (by omega), if_pos (by omega)]
        · rw [pk_un e, hx j]
          by_cases c : b ≤ j ∧ j < i
          · rw [if_pos c, if_pos (by omega)]
          · rw [if_neg c, if_neg (by omega)]
      · intro j
        rw [ey]
        by_cases e : j = i
        · subst e
          rw [pk_us, et, hx j, if_neg (by omega), if_pos (by omega)]
        · rw [pk_un e, hy j]
          by_cases c : b ≤ j ∧ j < i
          · rw [if_pos c, if_pos (by omega)]
          · rw [if_neg c, if_neg (by omega)]
theorem zx_turn {post : Int32 → SX → Prop} {h m p b : Nat} (hh : 1 ≤ h) (hh6 : h ≤ 6) (hm : m < 18) (hq : p ≤ 9) (hb : b ≤ p) (hw : aw (h - 1) = nI b)
    (hp : ∀ x y : Nat → Int32, (∀ j, x j = if b ≤ j ∧ j < p then ay j else ax j) → (∀ j, y j = if b ≤ j ∧ j < p then ax j else ay j) → post (nI h) (nI h, nI (m + 1), fc, nI p, uf, ul, ue, fr, aw, af, al, ae, x, y, ao, au, ak, ar, aq, an)) :
    wpX_turn post (nI h, nI m, fc, nI p, uf, ul, ue, fr, aw, af, al, ae, ax, ay, ao, au, ak, ar, aq, an) := by
  have e1 : nI h - 1 = nI (h - 1) := pk_sub (b := 1) hh
  unfold wpX_turn
  dsimp only
  refine zx_refused (k := 1) hm hh hh6 (br_t (by decide) ?_)
  rw [e1, nI_clamp (n := h - 1) (by omega), hw]
  refine And.intro (vp_in_nI (by omega) (by decide)) ?_
  intro x ex
  subst ex
  exact Exists.intro 10 (zx_turn_24 hq hp 10 b ax ay (by omega) hb (by omega) (fun j => by rw [if_neg (by omega)]) (fun j => by rw [if_neg (by omega)]))
end
end
section
/-! the component's define -/
section
variable {fh fm fc fp uf ul ue fr : Int32} {aw af al ae ax ay ao au ak ar aq an : Nat → Int32}
theorem zx_define_70 {post : Int32 → SX → Prop} {p : Nat} {tx ty : Nat → Nat} (hq : p ≤ 9) (ht : ∀ j, j < p → ax j = nI (tx j) ∧ ay j = nI (ty j) ∧ tx j ≤ 2 ∧ ty j ≤ 2)
    (hp : ∀ o k : Nat → Int32, (∀ j, j < p → o j = ao j) → (∀ i j, i < 9 → (bt (k i) j = true ↔ j < p ∧ i = 3 * tx j + ty j)) → post fh (0, 0, 0, 0, uf, ul, ue, 0, aw, af, al, ae, ax, ay, ao, o, k, ar, aq, an)) :
    ∀ (n x : Nat) (o k : Nat → Int32), x ≤ p → p < x + n → (∀ j, j < x → o j = ao j) → (∀ i j, i < 9 → (bt (k i) j = true ↔ j < x ∧ i = 3 * tx j + ty j)) →
      wX_define_70 post fh fm fc (nI p) uf ul ue fr n (nI x) aw af al ae ax ay ao o k ar aq an := by
  intro n
  induction n with
  | zero => intro x o k h1 h2; omega
  | succ n ih =>
    intro x o k h1 h2 ho hk
    refine pk_le p x (fun z => ?_) (fun z => ?_)
    · have e : x = p := by omega
      subst e
      exact hp o k ho hk
    · have hin : vp_in (nI x) 9 := vp_in_nI (by omega) (by decide)
      obtain ⟨t1, t2, t3, t4⟩ := ht x z
      rw [nI_clamp (n := x) (by omega)]
      refine And.intro hin (And.intro hin ?_)
      intro o' eo
      refine And.intro hin (And.intro hin ?_)
      intro c ec
      have ec' : c = nI (3 * tx x + ty x) := by
        rw [ec, t1, t2]
        show nI (tx x) * nI 3 + nI (ty x) = _
        rw [pk_mul, nI_add, Nat.mul_comm]
      subst ec'
      rw [nI_clamp (n := 3 * tx x + ty x) (by omega)]
      have hc : vp_in (nI (3 * tx x + ty x)) 9 := vp_in_nI (by omega) (by decide)
      refine And.intro hc (And.intro hc ?_)
      intro k' ek x' ex
      rw [nI_1] at ex
      subst ex
      refine ih (x + 1) o' k' (by omega) (by omega) ?_ ?_
      · intro j hj
        rw [eo]
        by_cases e : j = x
        · rw [e, pk_us]
        · rw [pk_un e]
          exact ho j (by omega)
      · intro i j hi
        rw [ek]
        by_cases e : i = 3 * tx x + ty x
        · rw [e, pk_us, zb_orT, zb_oneT (by omega), ← e, hk i j hi]
          constructor
          · intro c
            rcases c with c | c
            · exact ⟨by omega, c.2⟩
            · exact ⟨by omega, by rw [c]; exact e⟩
          · intro c
            by_cases ej : j = x
            · exact Or.inr ej
            · exact Or.inl ⟨by omega, c.2⟩
        · rw [pk_un e, hk i j hi]
          constructor
          · intro c
            exact ⟨by omega, c.2⟩
          · intro c
            refine ⟨?_, c.2⟩
            by_cases ej : j = x
            · exact absurd (ej ▸ c.2) e
            · omega
theorem zx_define_49 {post : Int32 → SX → Prop} {p : Nat} {tx ty : Nat → Nat} (hq : p ≤ 9) (ht : ∀ j, j < p → ax j = nI (tx j) ∧ ay j = nI (ty j) ∧ tx j ≤ 2 ∧ ty j ≤ 2)
    (hp : ∀ o k : Nat → Int32, (∀ j, j < p → o j = ao j) → (∀ i j, i < 9 → (bt (k i) j = true ↔ j < p ∧ i = 3 * tx j + ty j)) → post fh (0, 0, 0, 0, uf, ul, ue, 0, aw, af, al, ae, ax, ay, ao, o, k, ar, aq, an)) :
    ∀ (n x : Nat) (k : Nat → Int32), x ≤ 9 → 9 < x + n → (∀ i, i < x → k i = 0) → wX_define_49 post fh fm fc (nI p) uf ul ue fr n (nI x) aw af al ae ax ay ao au k ar aq an := by
  intro n
  induction n with
  | zero => intro x k h1 h2; omega
  | succ n ih =>
    intro x k h1 h2 hk
    refine pk_le 9 x (fun z => ?_) (fun z => ?_)
    · refine Exists.intro 10 (zx_define_70 hq ht hp 10 0 au k (by omega) (by omega) (fun j hj => absurd hj (Nat.not_lt_zero _)) ?_)
      intro i j hi
      rw [hk i (by omega)]
      exact ⟨fun c => absurd c zb_0T, fun c => absurd c.1 (Nat.not_lt_zero _)⟩
    · rw [nI_clamp (n := x) (by omega)]
      refine And.intro (vp_in_nI z (by decide)) ?_
      intro k' ek x' ex
      rw [nI_1] at ex
      subst ex
      refine ih (x + 1) k' (by omega) (by omega) ?_
      intro i hi
      rw [ek]
      by_cases e : i = x
      · rw [e, pk_us]
      · rw [pk_un e]
        exact hk i (by omega)
theorem zx_define {post : Int32 → SX → Prop} {h p : Nat} {tx ty : Nat → Nat} (hh : 1 ≤ h) (hh6 : h ≤ 6) (hq : p ≤ 9) (he : ae (h - 1) = 0 ∨ ae (h - 1) = 1)
    (ht : ∀ j, j < p → ax j = nI (tx j) ∧ ay j = nI (ty j) ∧ tx j ≤ 2 ∧ ty j ≤ 2)
    (hp : ∀ o k : Nat → Int32, (∀ j, j < p → o j = ao j) → (∀ i j, i < 9 → (bt (k i) j = true ↔ j < p ∧ i = 3 * tx j + ty j)) →
      post (nI h) (0, 0, 0, 0, af (h - 1), al (h - 1), ae (h - 1), 0, aw, af, al, ae, ax, ay, ao, o, k, ar, aq, an)) :
    wpX_define post (nI h, fm, fc, nI p, uf, ul, ue, fr, aw, af, al, ae, ax, ay, ao, au, ak, ar, aq, an) := by
  have hy : vp_in (nI (h - 1)) 6 := vp_in_nI (by omega) (by decide)
  refine pk_eq h 0 (fun z => absurd z (by omega)) (fun _ => ?_)
  intro x ex
  have t : x = nI (h - 1) := ex.trans (pk_sub (b := 1) hh)
  subst t
  rw [nI_clamp (n := h - 1) (by omega)]
  refine And.intro hy ?_
  intro f ef
  refine And.intro hy ?_
  intro l el
  refine And.intro hy ?_
  intro e ee
  have hn : narrow .boolean (.int e) = .int e ∧ fits .boolean (.int e) = true := by
    rw [ee]
    rcases he with z | z
    · rw [z]
      exact ⟨rfl, rfl⟩
    · rw [z]
      exact ⟨rfl, rfl⟩
  subst ef el ee
  refine And.intro hn.1 (And.intro hn.2 ?_)
  exact Exists.intro 10 (zx_define_49 hq ht hp 10 0 ak (by omega) (by omega) (fun j hj => absurd hj (Nat.not_lt_zero _)))
end
end
section
/-! the component's machine over both words: behind, reached, imagesOf, prepare -/
def zx_B (s uf : Int32) (au : Nat → Int32) (i p : Nat) : Prop := (bt s 9 = true ∧ bt uf p = true) ∨ ∃ q, q < i ∧ bt s q = true ∧ bt (au q) p = true
def zx_O (aq ak au : Nat → Int32) (uf : Int32) (i x v b p : Nat) : Prop :=
  (0 < i ∧ zx_B (aq (v * 5 + i - 1)) uf au 9 p ∧ bt (ak (x * 3 + 2)) p = true) ∨
  (0 < v ∧ zx_B (aq (b * 5 + i)) uf au 9 p ∧ bt (ak (6 + (v - 1) % 2)) p = true) ∨
  (0 < v ∧ 0 < i ∧ zx_B (aq (b * 5 + i - 1)) uf au 9 p ∧ bt (ak (x * 3 + (v - 1) % 2)) p = true)
section
variable {fh fm fc fp uf ul ue fr : Int32} {aw af al ae ax ay ao au ak ar aq an : Nat → Int32}
theorem zx_behind_19 {post : Int32 → Prop} {s : Int32} (hp : ∀ r : Int32, (∀ p, bt r p = true ↔ zx_B s uf au 9 p) → post r) :
    ∀ (n i : Nat) (r : Int32), i ≤ 9 → 9 < i + n → (∀ p, bt r p = true ↔ zx_B s uf au i p) → wX_behind_19 post s fh fm fc fp uf ul ue fr aw af al ae ax ay ao au ak ar aq an n r (nI i) := by
  intro n
  induction n with
  | zero => intro i r h1 h2; omega
  | succ n ih =>
    intro i r h1 h2 hr
    refine pk_le 9 i (fun z => ?_) (fun z => ?_)
    · have e : i = 9 := by omega
      subst e
      exact hp r hr
    · have hb : ((s >>> (nI i &&& 31)) &&& 1) = 1 ↔ bt s i = true := zb_bitI (by omega)
      rw [hb, nI_clamp (n := i) (by omega)]
      refine br_c (fun t => ?_) (fun t => ?_)
      · refine And.intro (vp_in_nI z (by decide)) ?_
        intro r' er x ex
        rw [nI_1] at ex
        subst ex
        refine ih (i + 1) r' (by omega) (by omega) ?_
        intro p
        rw [er, zb_orT, hr p]
        constructor
        · intro c
          rcases c with c | c
          · rcases c with c | ⟨q, hq, c⟩
            · exact Or.inl c
            · exact Or.inr ⟨q, by omega, c⟩
          · exact Or.inr ⟨i, by omega, t, c⟩
        · intro c
          rcases c with c | ⟨q, hq, c⟩
          · exact Or.inl (Or.inl c)
          · by_cases e : q = i
            · rw [e] at c
              exact Or.inr c.2
            · exact Or.inl (Or.inr ⟨q, by omega, c⟩)
      · intro x ex
        rw [nI_1] at ex
        subst ex
        refine ih (i + 1) r (by omega) (by omega) ?_
        intro p
        rw [hr p]
        constructor
        · intro c
          rcases c with c | ⟨q, hq, c⟩
          · exact Or.inl c
          · exact Or.inr ⟨q, by omega, c⟩
        · intro c
          rcases c with c | ⟨q, hq, c⟩
          · exact Or.inl c
          · by_cases e : q = i
            · rw [e] at c
              exact absurd c.1 t
            · exact Or.inr ⟨q, by omega, c⟩
theorem zx_behind {post : Int32 → Prop} {s : Int32} (hp : ∀ r : Int32, (∀ p, bt r p = true ↔ zx_B s uf au 9 p) → post r) : wpX_behind post (fh, fm, fc, fp, uf, ul, ue, fr, aw, af, al, ae, ax, ay, ao, au, ak, ar, aq, an) s := by
  unfold wpX_behind
  dsimp only
  rw [zb_512z]
  refine br_c (fun t => ?_) (fun t => ?_)
  · refine Exists.intro 10 (zx_behind_19 hp 10 0 0 (by omega) (by omega) ?_)
    intro p
    constructor
    · intro c
      exact absurd c zb_0T
    · intro c
      rcases c with c | ⟨q, hq, c⟩
      · exact absurd c.1 t
      · exact absurd hq (Nat.not_lt_zero _)
  · have t' : bt s 9 = true := Classical.byContradiction t
    refine Exists.intro 10 (zx_behind_19 hp 10 0 uf (by omega) (by omega) ?_)
    intro p
    constructor
    · intro c
      exact Or.inl ⟨t', c⟩
    · intro c
      rcases c with c | ⟨q, hq, c⟩
      · exact c.2
      · exact absurd hq (Nat.not_lt_zero _)
theorem zx_reached_40 {post : Int32 → Prop} {i x v b : Nat} {x5 : Int32} (hi : i ≤ 4) (hx : x < 2) (hv : v < 31) (hb : b < 31) (h5 : ∀ p, bt x5 p = true ↔ 0 < i ∧ zx_B (aq (v * 5 + i - 1)) uf au 9 p ∧ bt (ak (x * 3 + 2)) p = true)
    (hp : ∀ r : Int32, (∀ p, bt r p = true ↔ zx_O aq ak au uf i x v b p) → post r) : wX_reached_40 post (nI i) (nI x) (nI v) (nI b) x5 fh fm fc fp uf ul ue fr aw af al ae ax ay ao au ak ar aq an := by
  unfold wX_reached_40
  refine pk_le v 0 (fun z => ?_) (fun z => ?_)
  · refine hp x5 ?_
    intro p
    rw [h5 p]
    constructor
    · exact Or.inl
    · intro c
      rcases c with c | c | c
      · exact c
      · omega
      · omega
  · intro y ey
    have ey' : y = nI ((v - 1) % 2) := by
      rw [ey]
      have e1 : nI v - 1 = nI (v - 1) := pk_sub (b := 1) z
      rw [e1, pk_andN (by omega) 1 (by decide)]
    subst ey'
    have hy : (v - 1) % 2 < 2 := Nat.mod_lt _ (by decide)
    generalize hY : (v - 1) % 2 = Y at *
    have e2 : nI b * 5 + nI i = nI (b * 5 + i) := by
      show nI b * nI 5 + nI i = _
      rw [pk_mul, nI_add]
    have e3 : (6 : Int32) + nI Y = nI (6 + Y) := nI_add 6 Y
    have e4 : nI x * 3 + nI Y = nI (x * 3 + Y) := by
      show nI x * nI 3 + nI Y = _
      rw [pk_mul, nI_add]
    rw [e2, e3, e4, nI_clamp (n := b * 5 + i) (by omega), nI_clamp (n := 6 + Y) (by omega), nI_clamp (n := x * 3 + Y) (by omega)]
    refine And.intro (vp_in_nI (by omega) (by decide)) (zx_behind ?_)
    intro r hr
    refine And.intro (vp_in_nI (by omega) (by decide)) ?_
    intro s es
    have hs : ∀ p, bt s p = true ↔ (0 < i ∧ zx_B (aq (v * 5 + i - 1)) uf au 9 p ∧ bt (ak (x * 3 + 2)) p = true) ∨ (zx_B (aq (b * 5 + i)) uf au 9 p ∧ bt (ak (6 + Y)) p = true) := by
      intro p
      rw [es, zb_orT, zb_andT, h5 p, hr p]
    refine pk_le i 0 (fun w => ?_) (fun w => ?_)
    · refine hp s ?_
      intro p
      rw [hs p]
      unfold zx_O
      rw [hY]
      constructor
      · intro c
        rcases c with c | c
        · exact Or.inl c
        · exact Or.inr (Or.inl ⟨z, c⟩)
      · intro c
        rcases c with c | c | c
        · exact Or.inl c
        · exact Or.inr c.2
        · omega
    · have e5 : nI (b * 5 + i) - 1 = nI (b * 5 + i - 1) := pk_sub (b := 1) (by omega)
      rw [e5, nI_clamp (n := b * 5 + i - 1) (by omega)]
      refine And.intro (vp_in_nI (by omega) (by decide)) (zx_behind ?_)
      intro r2 hr2
      refine And.intro (vp_in_nI (by omega) (by decide)) ?_
      intro s2 es2
      refine hp s2 ?_
      intro p
      rw [es2, zb_orT, zb_andT, hs p, hr2 p]
      unfold zx_O
      rw [hY]
      constructor
      · intro c
        rcases c with (c | c) | c
        · exact Or.inl c
        · exact Or.inr (Or.inl ⟨z, c⟩)
        · exact Or.inr (Or.inr ⟨z, w, c⟩)
      · intro c
        rcases c with c | c | c
        · exact Or.inl (Or.inl c)
        · exact Or.inl (Or.inr c.2)
        · exact Or.inr c.2.2
theorem zx_reached {post : Int32 → Prop} {i x v b : Nat} (hi : i ≤ 4) (hx : x < 2) (hv : v < 31) (hb : b < 31)
    (hp : ∀ r : Int32, (∀ p, bt r p = true ↔ zx_O aq ak au uf i x v b p) → post r) : wpX_reached post (fh, fm, fc, fp, uf, ul, ue, fr, aw, af, al, ae, ax, ay, ao, au, ak, ar, aq, an) (nI i) (nI x) (nI v) (nI b) := by
  unfold wpX_reached
  dsimp only
  refine pk_le i 0 (fun z => ?_) (fun z => ?_)
  · refine zx_reached_40 hi hx hv hb ?_ hp
    intro p
    exact ⟨fun c => absurd c zb_0T, fun c => by omega⟩
  · have e2 : nI v * 5 + nI i - 1 = nI (v * 5 + i - 1) := by
      show nI v * nI 5 + nI i - 1 = _
      rw [pk_mul, nI_add]
      exact pk_sub (b := 1) (by omega)
    have e4 : nI x * 3 + 2 = nI (x * 3 + 2) := by
      show nI x * nI 3 + nI 2 = _
      rw [pk_mul, nI_add]
    rw [e2, e4, nI_clamp (n := v * 5 + i - 1) (by omega), nI_clamp (n := x * 3 + 2) (by omega)]
    refine And.intro (vp_in_nI (by omega) (by decide)) (zx_behind ?_)
    intro r hr
    refine And.intro (vp_in_nI (by omega) (by decide)) ?_
    intro s es
    refine zx_reached_40 hi hx hv hb ?_ hp
    intro p
    rw [es, zb_andT, hr p]
    exact ⟨fun c => ⟨z, c⟩, fun c => c.2⟩
end
end
section
/-! imagesOf and prepare against an abstract set S i v of places -/
def zx_Bs (S : Nat → Nat → Nat → Prop) (uf : Int32) (au : Nat → Int32) (i v p : Nat) : Prop := (S i v 9 ∧ bt uf p = true) ∨ ∃ q, q < 9 ∧ S i v q ∧ bt (au q) p = true
def zx_Os (S : Nat → Nat → Nat → Prop) (ak au : Nat → Int32) (uf : Int32) (u i v p : Nat) : Prop :=
  (0 < i ∧ zx_Bs S uf au (i - 1) v p ∧ bt (ak (zw_c u i * 3 + 2)) p = true) ∨
  (0 < v ∧ zx_Bs S uf au i ((v - 1) / 2) p ∧ bt (ak (6 + (v - 1) % 2)) p = true) ∨
  (0 < v ∧ 0 < i ∧ zx_Bs S uf au (i - 1) ((v - 1) / 2) p ∧ bt (ak (zw_c u i * 3 + (v - 1) % 2)) p = true)
def zx_Hs (S : Nat → Nat → Nat → Prop) (ak au : Nat → Int32) (uf : Int32) (u : Nat) : Prop :=
  (∀ p, S 0 0 p ↔ p = 9) ∧ ∀ i v, i ≤ zw_l u → v < 31 → 0 < v + i → ∀ p, (S i v p ↔ zx_Os S ak au uf u i v p)
def zx_Iv (S : Nat → Nat → Nat → Prop) (aq : Nat → Int32) (n t : Nat) : Prop := ∀ v i, v < 31 → i ≤ n → v * 5 + i < t → ∀ p, (bt (aq (v * 5 + i)) p = true ↔ S i v p)
def zx_Im (S : Nat → Nat → Nat → Prop) (ul ue : Int32) (n v : Nat) : Prop := (∃ p, S n v p ∧ bt ul p = true) ∨ (S n v 9 ∧ ¬ ue = 0)
theorem zx_BBs {S : Nat → Nat → Nat → Prop} {s uf : Int32} {au : Nat → Int32} {i v p : Nat} (h : ∀ p, bt s p = true ↔ S i v p) : zx_B s uf au 9 p ↔ zx_Bs S uf au i v p := by
  unfold zx_B zx_Bs
  constructor
  · intro c
    rcases c with c | ⟨q, hq, c⟩
    · exact Or.inl ⟨(h 9).mp c.1, c.2⟩
    · exact Or.inr ⟨q, hq, (h q).mp c.1, c.2⟩
  · intro c
    rcases c with c | ⟨q, hq, c⟩
    · exact Or.inl ⟨(h 9).mpr c.1, c.2⟩
    · exact Or.inr ⟨q, hq, (h q).mpr c.1, c.2⟩
theorem zx_OOs {S : Nat → Nat → Nat → Prop} {uf : Int32} {aq ak au : Nat → Int32} {u n i x v b p : Nat} (hI : zx_Iv S aq n (v * 5 + i)) (hi : i ≤ n) (hn : n ≤ 4) (hv : v < 31) (hx : 0 < i → x = zw_c u i) (hb : 0 < v → b = (v - 1) / 2) :
    zx_O aq ak au uf i x v b p ↔ zx_Os S ak au uf u i v p := by
  have d1 : 0 < i → (zx_B (aq (v * 5 + i - 1)) uf au 9 p ↔ zx_Bs S uf au (i - 1) v p) := by
    intro h
    have e : v * 5 + i - 1 = v * 5 + (i - 1) := by omega
    rw [e]
    exact zx_BBs (hI v (i - 1) hv (by omega) (by omega))
  have d2 : 0 < v → (zx_B (aq (b * 5 + i)) uf au 9 p ↔ zx_Bs S uf au i ((v - 1) / 2) p) := by
    intro h
    rw [hb h]
    exact zx_BBs (hI _ i (by omega) (by omega) (by omega))
  have d3 : 0 < v → 0 < i → (zx_B (aq (b * 5 + i - 1)) uf au 9 p ↔ zx_Bs S uf au (i - 1) ((v - 1) / 2) p) := by
    intro h h'
    rw [hb h]
    have e : (v - 1) / 2 * 5 + i - 1 = (v - 1) / 2 * 5 + (i - 1) := by omega
    rw [e]
    exact zx_BBs (hI _ (i - 1) (by omega) (by omega) (by omega))
  unfold zx_O zx_Os
  constructor
  · intro c
    rcases c with ⟨c1, c2, c3⟩ | ⟨c1, c2, c3⟩ | ⟨c1, c2, c3, c4⟩
    · exact Or.inl ⟨c1, (d1 c1).mp c2, by rw [← hx c1]; exact c3⟩
    · exact Or.inr (Or.inl ⟨c1, (d2 c1).mp c2, c3⟩)
    · exact Or.inr (Or.inr ⟨c1, c2, (d3 c1 c2).mp c3, by rw [← hx c2]; exact c4⟩)
  · intro c
    rcases c with ⟨c1, c2, c3⟩ | ⟨c1, c2, c3⟩ | ⟨c1, c2, c3, c4⟩
    · exact Or.inl ⟨c1, (d1 c1).mpr c2, by rw [hx c1]; exact c3⟩
    · exact Or.inr (Or.inl ⟨c1, (d2 c1).mpr c2, c3⟩)
    · exact Or.inr (Or.inr ⟨c1, c2, (d3 c1 c2).mpr c3, by rw [hx c2]; exact c4⟩)
theorem zx_Iv_upd {S : Nat → Nat → Nat → Prop} {aq : Nat → Int32} {n v i : Nat} {r : Int32} (hn : n ≤ 4) (hi : i ≤ n) (hI : zx_Iv S aq n (v * 5 + i)) (hr : ∀ p, bt r p = true ↔ S i v p) : zx_Iv S (upd aq (v * 5 + i) r) n (v * 5 + (i + 1)) := by
  intro v' i' hv' hi' ht p
  by_cases e : v' * 5 + i' = v * 5 + i
  · have e1 : v' = v := by omega
    have e2 : i' = i := by omega
    subst e1 e2
    rw [pk_us]
    exact hr p
  · rw [pk_un e]
    exact hI v' i' hv' hi' (by omega) p
section
variable {fh fm fc fp uf ul ue fr : Int32} {aw af al ae ax ay ao au ak ar aq an : Nat → Int32}
theorem zx_im61 {post : Int32 → SX → Prop} {J : Int32 → Int32 → (Nat → Int32) → (Nat → Int32) → (Nat → Int32) → (Nat → Int32) → (Nat → Int32) → (Nat → Int32) → (Nat → Int32) → (Nat → Int32) → (Nat → Int32) → (Nat → Int32) → (Nat → Int32) → (Nat → Int32) → Prop} {J39 : Int32 → (Nat → Int32) → (Nat → Int32) → (Nat → Int32) → (Nat → Int32) → (Nat → Int32) → (Nat → Int32) → (Nat → Int32) → (Nat → Int32) → (Nat → Int32) → (Nat → Int32) → (Nat → Int32) → (Nat → Int32) → Prop} {S : Nat → Nat → Nat → Prop} {u i v b x : Nat} {x3 : Int32}
    (hS : zx_Hs S ak au uf u) (hu : u < 31) (hv : v < 31) (hi : i ≤ zw_l u) (hx : x < 2) (hxc : 0 < i → x = zw_c u i) (hb : b < 31) (hbv : 0 < v → b = (v - 1) / 2) (hI : zx_Iv S aq (zw_l u) (v * 5 + i))
    (hJ : ∀ r : Int32, (∀ p, bt r p = true ↔ S i v p) → J39 (nI (i + 1)) aw af al ae ax ay ao au ak ar (upd aq (v * 5 + i) r) an) :
    wX_imagesOf_61 post J J39 (nI u) (nI (zw_l u)) x3 (nI v) (nI b) (nI i) (nI x) fh fm fc fp uf ul ue fr aw af al ae ax ay ao au ak ar aq an := by
  have h4 := zw_le4 hu
  have k91 : ∀ r : Int32, (∀ p, bt r p = true ↔ S i v p) → wX_imagesOf_91 post J J39 (nI u) (nI (zw_l u)) x3 (nI v) (nI b) (nI i) r fh fm fc fp uf ul ue fr aw af al ae ax ay ao au ak ar aq an := by
    intro r hr
    have e2 : nI v * 5 + nI i = nI (v * 5 + i) := by
      show nI v * nI 5 + nI i = _
      rw [pk_mul, nI_add]
    unfold wX_imagesOf_91
    rw [e2, nI_clamp (n := v * 5 + i) (by omega)]
    refine And.intro (vp_in_nI (by omega) (by decide)) ?_
    intro q eq y ey
    rw [nI_1] at ey
    subst eq ey
    exact hJ r hr
  have k79 : 0 < v + i → wX_imagesOf_79 post J J39 (nI u) (nI (zw_l u)) x3 (nI v) (nI b) (nI i) (nI x) fh fm fc fp uf ul ue fr aw af al ae ax ay ao au ak ar aq an := by
    intro h
    refine zx_reached (by omega) hx hv hb ?_
    intro r hr
    refine k91 r ?_
    intro p
    exact (hr p).trans ((zx_OOs hI hi h4 hv hxc hbv).trans (hS.2 i v hi hv h p).symm)
  refine pk_eq v 0 (fun z => ?_) (fun z => k79 (by omega))
  refine pk_eq i 0 (fun w => ?_) (fun w => k79 (by omega))
  refine k91 512 ?_
  intro p
  rw [w, z]
  exact zb_512T.trans (hS.1 p).symm
theorem zx_letterOf {post : Int32 → Prop} {u i : Nat} (hu : u < 31) (hi : i ≤ zw_l u) (hln : ∀ w, w < 31 → an w = nI (zw_l w)) (hp : post (nI (zw_c u i))) : wpX_letterOf post (fh, fm, fc, fp, uf, ul, ue, fr, aw, af, al, ae, ax, ay, ao, au, ak, ar, aq, an) (nI u) (nI i) := by
  have h4 := zw_le4 hu
  unfold wpX_letterOf
  dsimp only
  intro x ex
  subst ex
  rw [nI_clamp (n := u) (by omega), hln u hu, zw_cv u hu i (by omega) hi]
  exact And.intro (vp_in_nI hu (by decide)) hp
theorem zx_im39 {post : Int32 → SX → Prop} {J : Int32 → Int32 → (Nat → Int32) → (Nat → Int32) → (Nat → Int32) → (Nat → Int32) → (Nat → Int32) → (Nat → Int32) → (Nat → Int32) → (Nat → Int32) → (Nat → Int32) → (Nat → Int32) → (Nat → Int32) → (Nat → Int32) → Prop} {S : Nat → Nat → Nat → Prop} {u v b : Nat} {x3 : Int32}
    (hS : zx_Hs S ak au uf u) (hu : u < 31) (hv : v < 31) (hb : b < 31) (hbv : 0 < v → b = (v - 1) / 2) (hln : ∀ w, w < 31 → an w = nI (zw_l w))
    (hJ : ∀ (x : Int32) (q : Nat → Int32), zx_Iv S q (zw_l u) ((v + 1) * 5) → (∀ w, bt x w = true ↔ bt x3 w = true ∨ (w = v ∧ zx_Im S ul ue (zw_l u) v)) → J x (nI (v + 1)) aw af al ae ax ay ao au ak ar q an) :
    ∀ (k i : Nat) (q : Nat → Int32), i ≤ zw_l u + 1 → zw_l u + 1 < i + k → zx_Iv S q (zw_l u) (v * 5 + i) → wX_imagesOf_39 post J (nI u) (nI (zw_l u)) x3 (nI v) (nI b) fh fm fc fp uf ul ue fr k (nI i) aw af al ae ax ay ao au ak ar q an := by
  have h4 := zw_le4 hu
  intro k
  induction k with
  | zero => intro i q h1 h2; omega
  | succ k ih =>
    intro i q h1 h2 hI
    refine pk_lt (zw_l u) i (fun z => ?_) (fun z => ?_)
    · have e2 : nI v * 5 + nI (zw_l u) = nI (v * 5 + zw_l u) := by
        show nI v * nI 5 + nI (zw_l u) = _
        rw [pk_mul, nI_add]
      rw [e2, nI_clamp (n := v * 5 + zw_l u) (by omega)]
      refine And.intro (vp_in_nI (by omega) (by decide)) ?_
      intro s es
      have hs : ∀ p, bt s p = true ↔ S (zw_l u) v p := by
        intro p
        rw [es]
        exact hI v (zw_l u) hv (Nat.le_refl _) (by omega) p
      have hq : zx_Iv S q (zw_l u) ((v + 1) * 5) := fun v' i' hv' hi' ht => hI v' i' hv' hi' (by omega)
      have no : ¬ zx_Im S ul ue (zw_l u) v → ∀ y : Int32, y = nI v + 1 → J x3 y aw af al ae ax ay ao au ak ar q an := by
        intro c y ey
        rw [ey, nI_1]
        exact hJ x3 q hq (fun w => ⟨Or.inl, fun t => t.elim id (fun t => absurd t.2 c)⟩)
      have yes : zx_Im S ul ue (zw_l u) v → wX_imagesOf_152 post J (nI u) (nI (zw_l u)) x3 (nI v) fh fm fc fp uf ul ue fr aw af al ae ax ay ao au ak ar q an := by
        intro c x ex y ey
        rw [ey, nI_1]
        refine hJ x q hq (fun w => ?_)
        rw [ex, zb_orT, zb_oneT (by omega)]
        exact ⟨fun t => t.imp id (fun t => ⟨t, c⟩), fun t => t.imp id (fun t => t.1)⟩
      rw [zb_and0 (x := s) (y := ul), zb_512z]
      refine br_c (fun t => br_c (fun t2 => no ?_) (fun t2 => br_c (fun t3 => no ?_) (fun t3 => yes ?_))) (fun t => yes ?_)
      · intro c
        rcases c with ⟨p, c1, c2⟩ | c
        · exact t p ⟨(hs p).mpr c1, c2⟩
        · exact t2 ((hs 9).mpr c.1)
      · intro c
        rcases c with ⟨p, c1, c2⟩ | c
        · exact t p ⟨(hs p).mpr c1, c2⟩
        · exact c.2 t3
      · exact Or.inr ⟨(hs 9).mp (Classical.byContradiction t2), t3⟩
      · refine Classical.byContradiction (fun c => t ?_)
        intro p hp
        exact c (Or.inl ⟨p, (hs p).mp hp.1, hp.2⟩)
    · have nxt : ∀ r : Int32, (∀ p, bt r p = true ↔ S i v p) → wX_imagesOf_39 post J (nI u) (nI (zw_l u)) x3 (nI v) (nI b) fh fm fc fp uf ul ue fr k (nI (i + 1)) aw af al ae ax ay ao au ak ar (upd q (v * 5 + i) r) an := by
        intro r hr
        exact ih (i + 1) _ (by omega) (by omega) (zx_Iv_upd h4 z hI hr)
      refine pk_eq i 0 (fun w => ?_) (fun w => ?_)
      · exact zx_im61 (x := 0) hS hu hv z (by omega) (fun t => by omega) hb hbv hI nxt
      · refine zx_letterOf hu z hln ?_
        exact zx_im61 hS hu hv z (zw_c2 u i) (fun _ => rfl) hb hbv hI nxt
theorem zx_im12 {post : Int32 → SX → Prop} {S : Nat → Nat → Nat → Prop} {u : Nat} (hS : zx_Hs S ak au uf u) (hu : u < 31) (hln : ∀ w, w < 31 → an w = nI (zw_l w))
    (hp : ∀ (x : Int32) (q : Nat → Int32), (∀ w, bt x w = true ↔ w < 31 ∧ zx_Im S ul ue (zw_l u) w) → post x (fh, fm, fc, fp, uf, ul, ue, fr, aw, af, al, ae, ax, ay, ao, au, ak, ar, q, an)) :
    ∀ (k v : Nat) (x : Int32) (q : Nat → Int32), v ≤ 31 → 31 < v + k → zx_Iv S q (zw_l u) (v * 5) → (∀ w, bt x w = true ↔ w < v ∧ zx_Im S ul ue (zw_l u) w) → wX_imagesOf_12 post (nI u) (nI (zw_l u)) fh fm fc fp uf ul ue fr k x (nI v) aw af al ae ax ay ao au ak ar q an := by
  have h4 := zw_le4 hu
  intro k
  induction k with
  | zero => intro v x q h1 h2; omega
  | succ k ih =>
    intro v x q h1 h2 hI hx
    refine pk_le 31 v (fun z => ?_) (fun z => ?_)
    · have e : v = 31 := by omega
      subst e
      exact hp x q hx
    · have nxt : ∀ (x' : Int32) (q' : Nat → Int32), zx_Iv S q' (zw_l u) ((v + 1) * 5) → (∀ w, bt x' w = true ↔ bt x w = true ∨ (w = v ∧ zx_Im S ul ue (zw_l u) v)) → wX_imagesOf_12 post (nI u) (nI (zw_l u)) fh fm fc fp uf ul ue fr k x' (nI (v + 1)) aw af al ae ax ay ao au ak ar q' an := by
        intro x' q' hI' hx'
        refine ih (v + 1) x' q' (by omega) (by omega) hI' ?_
        intro w
        rw [hx' w, hx w]
        constructor
        · intro t
          rcases t with t | t
          · exact ⟨by omega, t.2⟩
          · exact ⟨by omega, by rw [t.1]; exact t.2⟩
        · intro t
          by_cases e : w = v
          · exact Or.inr ⟨e, by rw [← e]; exact t.2⟩
          · exact Or.inl ⟨by omega, t.2⟩
      refine pk_eq v 0 (fun w => ?_) (fun w => ?_)
      · exact Exists.intro 7 (zx_im39 (b := 0) hS hu z (by omega) (fun t => by omega) hln nxt 7 0 q (by omega) (by omega) hI)
      · intro y ey
        have ey' : y = nI ((v - 1) / 2) := by
          have e1 : nI v - 1 = nI (v - 1) := pk_sub (b := 1) (by omega)
          rw [ey, e1]
          exact pk_shrN (by omega) _ 1 (by decide)
        subst ey'
        exact Exists.intro 7 (zx_im39 hS hu z (by omega) (fun _ => rfl) hln nxt 7 0 q (by omega) (by omega) hI)
theorem zx_imagesOf {post : Int32 → SX → Prop} {S : Nat → Nat → Nat → Prop} {u : Nat} (hS : zx_Hs S ak au uf u) (hu : u < 31) (hln : ∀ w, w < 31 → an w = nI (zw_l w))
    (hp : ∀ (x : Int32) (q : Nat → Int32), (∀ w, bt x w = true ↔ w < 31 ∧ zx_Im S ul ue (zw_l u) w) → post x (fh, fm, fc, fp, uf, ul, ue, fr, aw, af, al, ae, ax, ay, ao, au, ak, ar, q, an)) : wpX_imagesOf post (fh, fm, fc, fp, uf, ul, ue, fr, aw, af, al, ae, ax, ay, ao, au, ak, ar, aq, an) (nI u) := by
  unfold wpX_imagesOf
  dsimp only
  rw [nI_clamp (n := u) (by omega), hln u hu]
  refine And.intro (vp_in_nI hu (by decide)) ?_
  intro x ex
  subst ex
  refine Exists.intro 32 (zx_im12 hS hu hln hp 32 0 0 aq (by omega) (by omega) ?_ ?_)
  · intro v i _ _ ht
    omega
  · intro w
    exact ⟨fun c => absurd c zb_0T, fun c => absurd c.1 (Nat.not_lt_zero _)⟩
theorem zx_prep10 {post : SX → Prop} {S : Nat → Nat → Nat → Nat → Prop} (hS : ∀ u, u < 31 → zx_Hs (S u) ak au uf u) (hln : ∀ w, w < 31 → an w = nI (zw_l w))
    (hp : ∀ r q : Nat → Int32, (∀ u, u < 31 → ∀ w, (bt (r u) w = true ↔ w < 31 ∧ zx_Im (S u) ul ue (zw_l u) w)) → post (fh, fm, fc, fp, uf, ul, ue, 1, aw, af, al, ae, ax, ay, ao, au, ak, r, q, an)) :
    ∀ (k x : Nat) (r q : Nat → Int32), x ≤ 31 → 31 < x + k → (∀ u, u < x → ∀ w, (bt (r u) w = true ↔ w < 31 ∧ zx_Im (S u) ul ue (zw_l u) w)) → wX_prepare_10 post k (nI x) fh fm fc fp uf ul ue fr aw af al ae ax ay ao au ak r q an := by
  intro k
  induction k with
  | zero => intro x r q h1 h2; omega
  | succ k ih =>
    intro x r q h1 h2 hr
    refine pk_le 31 x (fun z => ?_) (fun z => ?_)
    · have e : x = 31 := by omega
      subst e
      exact hp r q hr
    · refine zx_imagesOf (hS x z) z hln ?_
      intro y q' hy
      refine And.intro (vp_in_nI z (by decide)) ?_
      intro r' er x' ex
      rw [nI_1] at ex
      rw [nI_clamp (n := x) (by omega)] at er
      subst ex
      refine ih (x + 1) r' q' (by omega) (by omega) ?_
      intro u hu w
      rw [er]
      by_cases e : u = x
      · rw [e, pk_us]
        exact hy w
      · rw [pk_un e]
        exact hr u (by omega) w
theorem zx_prepare {post : SX → Prop} {S : Nat → Nat → Nat → Nat → Prop} (hS : ∀ u, u < 31 → zx_Hs (S u) ak au uf u) (hln : ∀ w, w < 31 → an w = nI (zw_l w))
    (hp : ∀ r q : Nat → Int32, (∀ u, u < 31 → ∀ w, (bt (r u) w = true ↔ w < 31 ∧ zx_Im (S u) ul ue (zw_l u) w)) → post (fh, fm, fc, fp, uf, ul, ue, 1, aw, af, al, ae, ax, ay, ao, au, ak, r, q, an)) (hq : ¬ fr = 0 → post (fh, fm, fc, fp, uf, ul, ue, fr, aw, af, al, ae, ax, ay, ao, au, ak, ar, aq, an)) : wpX_prepare post (fh, fm, fc, fp, uf, ul, ue, fr, aw, af, al, ae, ax, ay, ao, au, ak, ar, aq, an) := by
  refine br_c (fun _ => ?_) hq
  exact Exists.intro 32 (zx_prep10 hS hln hp 32 0 ar aq (by omega) (by omega) (fun u hu => absurd hu (Nat.not_lt_zero _)))
end
end
section
/-! the machine's sets are the places where paths end: what prepare computes is the relation in use -/
theorem zg_R_in {B F : Nat → Prop} {fo : Nat → Nat → Prop} {tx ty : Nat → Nat} {u v : List Nat} {p : Nat} (hc : ∀ p q, B p → fo p q → B q) (hF : ∀ p, F p → B p) (h : zg_R F fo tx ty u v p) : B p := by
  have aux : ∀ (l : List Nat) (a : Nat), B a → zg_p (fun x => x = p) fo a l → B p := by
    intro l
    induction l with
    | nil =>
      intro a ha e
      have e' : a = p := e
      exact e' ▸ ha
    | cons q l ih =>
      intro a ha z
      exact ih q (hc a q ha z.1) z.2
  obtain ⟨l, hl, _⟩ := h
  cases l with
  | nil => exact hl.elim
  | cons a l => exact aux l a (hF a hl.1) hl.2
theorem zg_l_1 {x : Nat} (h : x < 2) : zg_l x = [x] := if_pos h
theorem zg_l_0 {x : Nat} (h : ¬ x < 2) : zg_l x = [] := if_neg h
def zx_S (uf : Int32) (au : Nat → Int32) (tx ty : Nat → Nat) (u i v p : Nat) : Prop :=
  zg_R (fun p => bt uf p = true) (fun p q => bt (au p) q = true) tx ty ((zw_w u).take i) (zw_w v) p ∨ (p = 9 ∧ i = 0 ∧ v = 0)
/-- the automaton in use: its places are b .. e - 1 -/
def zx_Use (uf : Int32) (au ak : Nat → Int32) (b e : Nat) (tx ty : Nat → Nat) : Prop :=
  e ≤ 9 ∧ (∀ p, bt uf p = true → b ≤ p ∧ p < e) ∧ (∀ p q, b ≤ p ∧ p < e → bt (au p) q = true → b ≤ q ∧ q < e) ∧
  (∀ p, b ≤ p ∧ p < e → tx p ≤ 2 ∧ ty p ≤ 2 ∧ (tx p < 2 ∨ ty p < 2)) ∧ (∀ k p, k < 9 → b ≤ p ∧ p < e → (bt (ak k) p = true ↔ k = 3 * tx p + ty p))
section
variable {uf ul ue : Int32} {au ak : Nat → Int32} {b e : Nat} {tx ty : Nat → Nat}
theorem zx_S_in (hU : zx_Use uf au ak b e tx ty) {u v : List Nat} {p : Nat} (h : zg_R (fun p => bt uf p = true) (fun p q => bt (au p) q = true) tx ty u v p) : b ≤ p ∧ p < e :=
  zg_R_in (B := fun p => b ≤ p ∧ p < e) hU.2.2.1 hU.2.1 h
theorem zx_S_00 (hU : zx_Use uf au ak b e tx ty) {p : Nat} : ¬ zg_R (fun p => bt uf p = true) (fun p q => bt (au p) q = true) tx ty [] [] p := by
  intro h
  have hB := zx_S_in hU h
  obtain ⟨u', v', e1, e2, _⟩ := zg_rec.mp h
  have t1 := (List.append_eq_nil_iff.mp e1.symm).2
  have t2 := (List.append_eq_nil_iff.mp e2.symm).2
  rcases (hU.2.2.2.1 p hB).2.2 with z | z
  · rw [zg_l_1 z] at t1
    cases t1
  · rw [zg_l_1 z] at t2
    cases t2
theorem zx_take0 {u i : Nat} (hi : i ≤ zw_l u) (h : (zw_w u).take i = []) : i = 0 := by
  have t := congrArg List.length h
  rw [List.length_take] at t
  unfold zw_l at hi
  have t2 : min i (zw_w u).length = 0 := t
  omega
theorem zx_S_B (hU : zx_Use uf au ak b e tx ty) {u i v p : Nat} (hi : i ≤ zw_l u) (hv : v < 31) :
    ((((zw_w u).take i = [] ∧ zw_w v = [] ∧ bt uf p = true) ∨ ∃ q, zg_R (fun p => bt uf p = true) (fun p q => bt (au p) q = true) tx ty ((zw_w u).take i) (zw_w v) q ∧ bt (au q) p = true)) ↔
      zx_Bs (zx_S uf au tx ty u) uf au i v p := by
  have h9 := hU.1
  constructor
  · intro h
    rcases h with ⟨e1, e2, e3⟩ | ⟨q, h1, h2⟩
    · exact Or.inl ⟨Or.inr ⟨rfl, zx_take0 hi e1, zw_nil hv e2⟩, e3⟩
    · have hB := zx_S_in hU h1
      exact Or.inr ⟨q, by omega, Or.inl h1, h2⟩
  · intro h
    rcases h with ⟨h1 | h1, h2⟩ | ⟨q, hq, h1 | h1, h2⟩
    · have hB := zx_S_in hU h1
      omega
    · refine Or.inl ⟨?_, ?_, h2⟩
      · rw [h1.2.1]
        exact List.take_zero
      · rw [h1.2.2]
        exact zw_0
    · exact Or.inr ⟨q, h1, h2⟩
    · omega
theorem zx_Bs_in (hU : zx_Use uf au ak b e tx ty) {u i v p : Nat} (h : zx_Bs (zx_S uf au tx ty u) uf au i v p) : b ≤ p ∧ p < e := by
  rcases h with ⟨_, h2⟩ | ⟨q, hq, h1 | h1, h2⟩
  · exact hU.2.1 p h2
  · exact hU.2.2.1 q p (zx_S_in hU h1) h2
  · omega
theorem zx_snoc_c {u i : Nat} (hu : u < 31) (hi : i ≤ zw_l u) {l : List Nat} {c : Nat} (h : (zw_w u).take i = l ++ [c]) : 0 < i ∧ l = (zw_w u).take (i - 1) ∧ c = zw_c u i := by
  have h4 := zw_le4 hu
  cases i with
  | zero =>
    rw [List.take_zero] at h
    have := (List.append_eq_nil_iff.mp h.symm).2
    cases this
  | succ i =>
    rw [zw_let u hu i (by omega) (by omega)] at h
    have t := List.append_singleton_inj.mp h
    exact ⟨by omega, t.1.symm, t.2.symm⟩
theorem zx_snoc_v {v : Nat} (hv : v < 31) {l : List Nat} {c : Nat} (h : zw_w v = l ++ [c]) : 0 < v ∧ l = zw_w ((v - 1) / 2) ∧ c = (v - 1) % 2 := by
  by_cases z : v = 0
  · rw [z, zw_0] at h
    have := (List.append_eq_nil_iff.mp h.symm).2
    cases this
  · rw [zw_snoc v hv (by omega)] at h
    have t := List.append_singleton_inj.mp h
    exact ⟨by omega, t.1.symm, t.2.symm⟩
theorem zx_take_s {u i : Nat} (hu : u < 31) (h0 : 0 < i) (hi : i ≤ zw_l u) : (zw_w u).take i = (zw_w u).take (i - 1) ++ [zw_c u i] := by
  have h4 := zw_le4 hu
  cases i with
  | zero => omega
  | succ i => exact zw_let u hu i (by omega) (by omega)
theorem zx_S_Hs (hU : zx_Use uf au ak b e tx ty) {u : Nat} (hu : u < 31) : zx_Hs (zx_S uf au tx ty u) ak au uf u := by
  have h9 := hU.1
  constructor
  · intro p
    constructor
    · intro h
      rcases h with h | h
      · rw [List.take_zero, zw_0] at h
        exact absurd h (zx_S_00 hU)
      · exact h.1
    · intro h
      exact Or.inr ⟨h, rfl, rfl⟩
  · intro i v hi hv hvi p
    have hy2 : (v - 1) % 2 < 2 := Nat.mod_lt _ (by decide)
    have hc2 := zw_c2 u i
    have hv2 : (v - 1) / 2 < 31 := by omega
    have hi1 : i - 1 ≤ zw_l u := by omega
    constructor
    · intro h
      have h' : zg_R (fun p => bt uf p = true) (fun p q => bt (au p) q = true) tx ty ((zw_w u).take i) (zw_w v) p := h.elim id (fun h => by omega)
      have hB := zx_S_in hU h'
      obtain ⟨l1, l2, l3⟩ := hU.2.2.2.1 p hB
      obtain ⟨u', v', e1, e2, hh⟩ := zg_rec.mp h'
      by_cases zx : tx p < 2
      · rw [zg_l_1 zx] at e1
        obtain ⟨i0, eu, ec⟩ := zx_snoc_c hu hi e1
        subst eu
        by_cases zy : ty p < 2
        · rw [zg_l_1 zy] at e2
          obtain ⟨v0, ev, ed⟩ := zx_snoc_v hv e2
          subst ev
          refine Or.inr (Or.inr ⟨v0, i0, (zx_S_B hU hi1 hv2).mp hh, (hU.2.2.2.2 _ p (by omega) hB).mpr ?_⟩)
          omega
        · rw [zg_l_0 zy, List.append_nil] at e2
          subst e2
          refine Or.inl ⟨i0, (zx_S_B hU hi1 hv).mp hh, (hU.2.2.2.2 _ p (by omega) hB).mpr ?_⟩
          omega
      · rw [zg_l_0 zx, List.append_nil] at e1
        subst e1
        have zy : ty p < 2 := l3.resolve_left zx
        rw [zg_l_1 zy] at e2
        obtain ⟨v0, ev, ed⟩ := zx_snoc_v hv e2
        subst ev
        refine Or.inr (Or.inl ⟨v0, (zx_S_B hU hi hv2).mp hh, (hU.2.2.2.2 _ p (by omega) hB).mpr ?_⟩)
        omega
    · intro h
      refine Or.inl (zg_rec.mpr ?_)
      rcases h with ⟨i0, h1, h2⟩ | ⟨v0, h1, h2⟩ | ⟨v0, i0, h1, h2⟩
      · have hB := zx_Bs_in hU h1
        obtain ⟨l1, l2, l3⟩ := hU.2.2.2.1 p hB
        have ek := (hU.2.2.2.2 _ p (by omega) hB).mp h2
        have et : tx p = zw_c u i := by omega
        have ez : ¬ ty p < 2 := by omega
        refine ⟨_, _, ?_, ?_, (zx_S_B hU hi1 hv).mpr h1⟩
        · rw [et, zg_l_1 hc2]
          exact zx_take_s hu i0 hi
        · rw [zg_l_0 ez, List.append_nil]
      · have hB := zx_Bs_in hU h1
        obtain ⟨l1, l2, l3⟩ := hU.2.2.2.1 p hB
        have ek := (hU.2.2.2.2 _ p (by omega) hB).mp h2
        have et : ty p = (v - 1) % 2 := by omega
        have ez : ¬ tx p < 2 := by omega
        refine ⟨_, _, ?_, ?_, (zx_S_B hU hi hv2).mpr h1⟩
        · rw [zg_l_0 ez, List.append_nil]
        · rw [et, zg_l_1 hy2]
          exact zw_snoc v hv v0
      · have hB := zx_Bs_in hU h1
        obtain ⟨l1, l2, l3⟩ := hU.2.2.2.1 p hB
        have ek := (hU.2.2.2.2 _ p (by omega) hB).mp h2
        have et : tx p = zw_c u i := by omega
        have es : ty p = (v - 1) % 2 := by omega
        refine ⟨_, _, ?_, ?_, (zx_S_B hU hi1 hv2).mpr h1⟩
        · rw [et, zg_l_1 hc2]
          exact zx_take_s hu i0 hi
        · rw [es, zg_l_1 hy2]
          exact zw_snoc v hv v0
theorem zx_S_Im (hU : zx_Use uf au ak b e tx ty) (hL : ∀ p, bt ul p = true → b ≤ p ∧ p < e) (hE : ue = 0 ∨ ue = 1) {u v : Nat} (hv : v < 31) :
    zx_Im (zx_S uf au tx ty u) ul ue (zw_l u) v ↔ zg_A (ue = 1) (fun p => bt uf p = true) (fun p => bt ul p = true) (fun p q => bt (au p) q = true) tx ty (zw_w u) (zw_w v) := by
  have h9 := hU.1
  have et : (zw_w u).take (zw_l u) = zw_w u := List.take_length
  rw [zg_acc]
  constructor
  · intro h
    rcases h with ⟨p, h1 | h1, h2⟩ | ⟨h1 | h1, h2⟩
    · rw [et] at h1
      exact Or.inr ⟨p, h2, h1⟩
    · have := hL p h2
      omega
    · have := zx_S_in hU h1
      omega
    · refine Or.inl ⟨hE.resolve_left h2, List.length_eq_zero_iff.mp h1.2.1, ?_⟩
      rw [h1.2.2]
      exact zw_0
  · intro h
    rcases h with ⟨h1, h2, h3⟩ | ⟨p, h1, h2⟩
    · refine Or.inr ⟨Or.inr ⟨rfl, ?_, zw_nil hv h3⟩, ?_⟩
      · unfold zw_l
        rw [h2]
        rfl
      · rw [h1]
        decide
    · refine Or.inl ⟨p, Or.inl ?_, h1⟩
      rw [et]
      exact h2
end
end
section
/-! the relation -/
/-- an expression of the stack: its places are b .. e - 1, and the reference's relation i holds what its paths spell -/
def zr_slot (af al ae ao : Nat → Int32) (tx ty : Nat → Nat) (sa : Nat → Int32) (b e i : Nat) : Prop :=
  (ae i = 0 ∨ ae i = 1) ∧ (∀ p, bt (af i) p = true → b ≤ p ∧ p < e) ∧ (∀ p, bt (al i) p = true → b ≤ p ∧ p < e) ∧
  (∀ p q, b ≤ p ∧ p < e → bt (ao p) q = true → b ≤ q ∧ q < e) ∧
  (∀ u v, u < 31 → v < 31 → (bt (sa (31 * i + u)) v = true ↔
    zg_A (ae i = 1) (fun p => bt (af i) p = true) (fun p => bt (al i) p = true) (fun p q => bt (ao p) q = true) tx ty (zw_w u) (zw_w v)))
def zr_stk (fh fm fc fp : Int32) (aw af al ae ax ay ao : Nat → Int32) (yd ys yp : Int32) (sa : Nat → Int32) : Prop :=
  ∃ (h m c : Nat) (lo tx ty : Nat → Nat), (fh = nI h ∧ fm = nI m ∧ fc = nI c ∧ fp = nI (lo h)) ∧ (yd = nI h ∧ ys = nI m ∧ yp = nI c) ∧
    (h ≤ 6 ∧ m ≤ 18 ∧ c ≤ 9 ∧ lo h ≤ c) ∧ (∀ i, i < h → aw i = nI (lo i) ∧ lo i ≤ lo (i + 1)) ∧
    (∀ p, p < lo h → ax p = nI (tx p) ∧ ay p = nI (ty p) ∧ tx p ≤ 2 ∧ ty p ≤ 2 ∧ (tx p < 2 ∨ ty p < 2)) ∧
    (∀ i, i < h → zr_slot af al ae ao tx ty sa (lo i) (lo (i + 1)) i)
def zr_use (uf ul ue : Int32) (au ak sa : Nat → Int32) : Prop :=
  ∃ (b e : Nat) (tx ty : Nat → Nat), zx_Use uf au ak b e tx ty ∧ (ue = 0 ∨ ue = 1) ∧ (∀ p, bt ul p = true → b ≤ p ∧ p < e) ∧
    (∀ u v, u < 31 → v < 31 → (bt (sa (186 + u)) v = true ↔
      zg_A (ue = 1) (fun p => bt uf p = true) (fun p => bt ul p = true) (fun p q => bt (au p) q = true) tx ty (zw_w u) (zw_w v)))
def zr_row (fr : Int32) (ar sa : Nat → Int32) : Prop := ¬ fr = 0 → ∀ u v, u < 31 → v < 31 → (bt (ar u) v = true ↔ bt (sa (186 + u)) v = true)
def zr_len (an : Nat → Int32) : Prop := ∀ w, w < 31 → an w = nI (zw_l w)
def i_Rel (_ : Nat) (u : SX) (v : SY) : Prop := match u, v with
  | (fh, fm, fc, fp, uf, ul, ue, fr, aw, af, al, ae, ax, ay, ao, au, ak, ar, aq, an), (yd, ys, yp, sa) => zr_stk fh fm fc fp aw af al ae ax ay ao yd ys yp sa ∧ zr_use uf ul ue au ak sa ∧ zr_row fr ar sa ∧ zr_len an
theorem i_up {k : Nat} {u : SX} {v : SY} (h : i_Rel k u v) : i_Rel (k + 5) u v := h
theorem zr_el {k : Nat} {u : SX} {v : SY} {P : SX → SY → Prop}
    (h : ∀ (fh fm fc fp uf ul ue fr : Int32) (aw af al ae ax ay ao au ak ar aq an : Nat → Int32) (yd ys yp : Int32) (sa : Nat → Int32),
      zr_stk fh fm fc fp aw af al ae ax ay ao yd ys yp sa → zr_use uf ul ue au ak sa → zr_row fr ar sa → zr_len an → P (fh, fm, fc, fp, uf, ul, ue, fr, aw, af, al, ae, ax, ay, ao, au, ak, ar, aq, an) (yd, ys, yp, sa)) (I : i_Rel k u v) : P u v := by
  obtain ⟨fh, fm, fc, fp, uf, ul, ue, fr, aw, af, al, ae, ax, ay, ao, au, ak, ar, aq, an⟩ := u
  obtain ⟨yd, ys, yp, sa⟩ := v
  exact h fh fm fc fp uf ul ue fr aw af al ae ax ay ao au ak ar aq an yd ys yp sa I.1 I.2.1 I.2.2.1 I.2.2.2
section
variable {uf ul ue fr : Int32} {af al ae ao au ak ar sa : Nat → Int32} {tx ty lo : Nat → Nat} {b e i h : Nat}
theorem zr_use_fr {sb : Nat → Int32} (H : zr_use uf ul ue au ak sa) (hs : ∀ u, u < 31 → sb (186 + u) = sa (186 + u)) : zr_use uf ul ue au ak sb := by
  obtain ⟨b, e, tx, ty, h1, h2, h3, h4⟩ := H
  refine ⟨b, e, tx, ty, h1, h2, h3, ?_⟩
  intro u v hu hv
  rw [hs u hu]
  exact h4 u v hu hv
theorem zr_row_fr {sb : Nat → Int32} (H : zr_row fr ar sa) (hs : ∀ u, u < 31 → sb (186 + u) = sa (186 + u)) : zr_row fr ar sb := by
  intro h0 u v hu hv
  rw [hs u hu]
  exact H h0 u v hu hv
theorem zr_mono (hl : ∀ i, i < h → lo i ≤ lo (i + 1)) : ∀ d i, i + d ≤ h → lo i ≤ lo (i + d) := by
  intro d
  induction d with
  | zero => intro i _; exact Nat.le_refl _
  | succ d ih =>
    intro i hi
    exact Nat.le_trans (ih i (by omega)) (hl (i + d) (by omega))
theorem zr_mono2 (hl : ∀ i, i < h → lo i ≤ lo (i + 1)) {i j : Nat} (hij : i ≤ j) (hj : j ≤ h) : lo i ≤ lo j := by
  have t := zr_mono hl (j - i) i (by omega)
  rw [show i + (j - i) = j by omega] at t
  exact t
/-- an expression that a call leaves alone -/
theorem zr_slot_fr {af' al' ae' ao' sb : Nat → Int32} {tx' ty' : Nat → Nat} (H : zr_slot af al ae ao tx ty sa b e i) (h1 : af' i = af i) (h2 : al' i = al i) (h3 : ae' i = ae i)
    (h4 : ∀ p q, b ≤ p ∧ p < e → (bt (ao' p) q = true ↔ bt (ao p) q = true)) (h5 : ∀ p, b ≤ p ∧ p < e → tx' p = tx p) (h6 : ∀ p, b ≤ p ∧ p < e → ty' p = ty p)
    (h7 : ∀ u, u < 31 → sb (31 * i + u) = sa (31 * i + u)) : zr_slot af' al' ae' ao' tx' ty' sb b e i := by
  obtain ⟨g1, g2, g3, g4, g5⟩ := H
  refine ⟨by rw [h3]; exact g1, by rw [h1]; exact g2, by rw [h2]; exact g3, fun p q hp hq => g4 p q hp ((h4 p q hp).mp hq), ?_⟩
  intro u v hu hv
  rw [h7 u hu, g5 u v hu hv, h1, h2, h3]
  exact (zg_A_cgr (B := fun p => b ≤ p ∧ p < e) g4 g2 Iff.rfl (fun _ => Iff.rfl) h4 (fun _ _ => Iff.rfl) h5 h6).symm
theorem zg_A_none {E : Prop} {F L : Nat → Prop} {fo : Nat → Nat → Prop} {u v : List Nat} (hE : E) (hF : ∀ p, ¬ F p) : zg_A E F L fo tx ty u v ↔ u = [] ∧ v = [] := by
  constructor
  · intro ⟨l, hl, e1, e2⟩
    cases l with
    | nil => exact ⟨e1.symm, e2.symm⟩
    | cons a l => exact absurd hl.1 (hF a)
  · intro ⟨e1, e2⟩
    exact ⟨[], hE, e1.symm, e2.symm⟩
theorem zg_A_one {E : Prop} {F L : Nat → Prop} {fo : Nat → Nat → Prop} {u v : List Nat} {p0 : Nat} (hE : ¬ E) (hF : ∀ p, F p ↔ p = p0) (hL : L p0) (hf : ∀ q, ¬ fo p0 q) :
    zg_A E F L fo tx ty u v ↔ u = zg_l (tx p0) ∧ v = zg_l (ty p0) := by
  constructor
  · intro ⟨l, hl, e1, e2⟩
    cases l with
    | nil => exact absurd hl hE
    | cons a l =>
      have ea := (hF a).mp hl.1
      subst ea
      cases l with
      | nil => exact ⟨e1.symm.trans (List.append_nil _), e2.symm.trans (List.append_nil _)⟩
      | cons q l => exact absurd hl.2.1 (hf q)
  · intro ⟨e1, e2⟩
    exact ⟨[p0], And.intro ((hF p0).mpr rfl) hL, (List.append_nil _).trans e1.symm, (List.append_nil _).trans e2.symm⟩
theorem zw_eq_i {u x : Nat} (hu : u < 31) (hx : x ≤ 2) : zw_w u = zg_l x ↔ u = zw_i x := by
  rw [← zw_iw x hx]
  exact ⟨fun t => zw_inj hu (zw_i31 x hx) t, fun t => by rw [t]⟩
/-- pair of two empty words -/
theorem zr_slot_none (h1 : ae i = 1) (h2 : af i = 0) (h3 : al i = 0) (h4 : ∀ u v, u < 31 → v < 31 → (bt (sa (31 * i + u)) v = true ↔ u = zw_i 2 ∧ v = zw_i 2)) : zr_slot af al ae ao tx ty sa b b i := by
  refine ⟨Or.inr h1, ?_, ?_, ?_, ?_⟩
  · intro p hp
    rw [h2] at hp
    exact absurd hp zb_0T
  · intro p hp
    rw [h3] at hp
    exact absurd hp zb_0T
  · intro p q hp
    omega
  · intro u v hu hv
    rw [h4 u v hu hv, zg_A_none h1 (fun p hp => by rw [h2] at hp; exact absurd hp zb_0T)]
    rw [← zw_eq_i hu (by decide), ← zw_eq_i hv (by decide)]
    exact Iff.rfl
/-- a pair of letters at place b -/
theorem zr_slot_one {x y : Nat} (hb : b < 9) (hx : x ≤ 2) (hy : y ≤ 2) (h1 : ae i = 0) (h2 : af i = (1 : Int32) <<< (nI b &&& 31)) (h3 : al i = (1 : Int32) <<< (nI b &&& 31)) (ho : ao b = 0) (ex : tx b = x) (ey : ty b = y)
    (h4 : ∀ u v, u < 31 → v < 31 → (bt (sa (31 * i + u)) v = true ↔ u = zw_i x ∧ v = zw_i y)) : zr_slot af al ae ao tx ty sa b (b + 1) i := by
  have hF : ∀ p, bt (af i) p = true ↔ p = b := by
    intro p
    rw [h2]
    exact zb_oneT (by omega)
  have hL : ∀ p, bt (al i) p = true ↔ p = b := by
    intro p
    rw [h3]
    exact zb_oneT (by omega)
  refine ⟨Or.inl h1, ?_, ?_, ?_, ?_⟩
  · intro p hp
    have := (hF p).mp hp
    omega
  · intro p hp
    have := (hL p).mp hp
    omega
  · intro p q hp hq
    have e : p = b := by omega
    rw [e, ho] at hq
    exact absurd hq zb_0T
  · intro u v hu hv
    rw [h4 u v hu hv, zg_A_one (p0 := b) (by rw [h1]; decide) hF ((hL b).mpr rfl) (fun q hq => by rw [ho] at hq; exact absurd hq zb_0T)]
    rw [ex, ey, zw_eq_i hu hx, zw_eq_i hv hy]
/-- sequence -/
theorem zr_slot_cat {af' al' ae' ao' sb : Nat → Int32} {c : Nat} {f l w : Int32} (he9 : e ≤ 9) (hbc : b ≤ c) (hce : c ≤ e) (hi7 : i + 1 ≠ 7) (Hx : zr_slot af al ae ao tx ty sa b c i) (Hy : zr_slot af al ae ao tx ty sa c e (i + 1))
    (ef : af' i = f) (el : al' i = l) (ew : ae' i = w)
    (ho : ∀ p q, bt (ao' p) q = true ↔ bt (ao p) q = true ∨ (p < 9 ∧ bt (al i) p = true ∧ bt (af (i + 1)) q = true))
    (hf : ∀ p, bt f p = true ↔ bt (af i) p = true ∨ (ae i = 1 ∧ bt (af (i + 1)) p = true))
    (hl : ∀ p, bt l p = true ↔ (ae (i + 1) = 1 ∧ bt (al i) p = true) ∨ bt (al (i + 1)) p = true) (hw : w = 0 ∨ w = 1) (hw1 : w = 1 ↔ ae i = 1 ∧ ae (i + 1) = 1)
    (hs : ∀ u v, u < 31 → v < 31 → (bt (sb (31 * i + u)) v = true ↔ zy_P sa i (i + 1) u v)) : zr_slot af' al' ae' ao' tx ty sb b e i := by
  obtain ⟨x1, x2, x3, x4, x5⟩ := Hx
  obtain ⟨y1, y2, y3, y4, y5⟩ := Hy
  have hf' : ∀ p, bt (af' i) p = true ↔ bt (af i) p = true ∨ (ae i = 1 ∧ bt (af (i + 1)) p = true) := by rw [ef]; exact hf
  have hl' : ∀ p, bt (al' i) p = true ↔ (ae (i + 1) = 1 ∧ bt (al i) p = true) ∨ bt (al (i + 1)) p = true := by rw [el]; exact hl
  have hw1' : ae' i = 1 ↔ ae i = 1 ∧ ae (i + 1) = 1 := by rw [ew]; exact hw1
  have ho' : ∀ p q, bt (ao' p) q = true ↔ bt (ao p) q = true ∨ (bt (al i) p = true ∧ bt (af (i + 1)) q = true) := by
    intro p q
    rw [ho p q]
    constructor
    · exact fun t => t.imp id (fun t => t.2)
    · intro t
      rcases t with t | t
      · exact Or.inl t
      · have := x3 p t.1
        exact Or.inr ⟨by omega, t⟩
  refine ⟨by rw [ew]; exact hw, ?_, ?_, ?_, ?_⟩
  · intro p hp
    rcases (hf' p).mp hp with t | t
    · have := x2 p t
      omega
    · have := y2 p t.2
      omega
  · intro p hp
    rcases (hl' p).mp hp with t | t
    · have := x3 p t.2
      omega
    · have := y3 p t
      omega
  · intro p q hp hq
    rcases (ho' p q).mp hq with t | t
    · by_cases z : p < c
      · have := x4 p q (by omega) t
        omega
      · have := y4 p q (by omega) t
        omega
    · have := y2 q t.2
      omega
  · intro u v hu hv
    have hu4 := zw_le4 hu
    have hv4 := zw_le4 hv
    rw [hs u v hu hv]
    rw [zg_A_cat (A := fun p => b ≤ p ∧ p < c) (B := fun p => c ≤ p ∧ p < e) x4 y4 (fun p h1 h2 => by omega) x2 y2 x3 y3 ho' hf' hl' hw1']
    constructor
    · intro ⟨p, hp, q, hq, c0, c1, c2⟩
      have g1 := zw_hd u hu p (by omega)
      have g2 := zw_hd v hv q (by omega)
      have g3 := zw_tl u hu p (by omega)
      have g4 := zw_tl v hv q (by omega)
      have d1 := (x5 _ _ g1.2 g2.2).mp c1
      have d2 := (y5 _ _ g3.2 g4.2).mp c2
      rw [g1.1, g2.1] at d1
      rw [g3.1, g4.1] at d2
      exact ⟨p, hp, q, hq, d1, d2⟩
    · intro ⟨p, hp, q, hq, d1, d2⟩
      have hp' : p ≤ zw_l u := hp
      have hq' : q ≤ zw_l v := hq
      have g1 := zw_hd u hu p (by omega)
      have g2 := zw_hd v hv q (by omega)
      have g3 := zw_tl u hu p (by omega)
      have g4 := zw_tl v hv q (by omega)
      rw [← g1.1, ← g2.1] at d1
      rw [← g3.1, ← g4.1] at d2
      exact ⟨p, hp, q, hq, Or.inr hi7, (x5 _ _ g1.2 g2.2).mpr d1, (y5 _ _ g3.2 g4.2).mpr d2⟩
/-- choice -/
theorem zr_slot_alt {af' al' ae' sb : Nat → Int32} {c : Nat} {w : Int32} (hbc : b ≤ c) (hce : c ≤ e) (Hx : zr_slot af al ae ao tx ty sa b c i) (Hy : zr_slot af al ae ao tx ty sa c e (i + 1))
    (ef : af' i = af i ||| af (i + 1)) (el : al' i = al i ||| al (i + 1)) (ew : ae' i = w) (hw : w = 0 ∨ w = 1) (hw1 : w = 1 ↔ ae i = 1 ∨ ae (i + 1) = 1)
    (hs : ∀ u, u < 31 → sb (31 * i + u) = sa (31 * i + u) ||| sa (31 * (i + 1) + u)) : zr_slot af' al' ae' ao tx ty sb b e i := by
  obtain ⟨x1, x2, x3, x4, x5⟩ := Hx
  obtain ⟨y1, y2, y3, y4, y5⟩ := Hy
  have hf' : ∀ p, bt (af' i) p = true ↔ bt (af i) p = true ∨ bt (af (i + 1)) p = true := by
    intro p
    rw [ef]
    exact zb_orT
  have hl' : ∀ p, bt (al' i) p = true ↔ bt (al i) p = true ∨ bt (al (i + 1)) p = true := by
    intro p
    rw [el]
    exact zb_orT
  have hw1' : ae' i = 1 ↔ ae i = 1 ∨ ae (i + 1) = 1 := by rw [ew]; exact hw1
  refine ⟨by rw [ew]; exact hw, ?_, ?_, ?_, ?_⟩
  · intro p hp
    rcases (hf' p).mp hp with t | t
    · have := x2 p t
      omega
    · have := y2 p t
      omega
  · intro p hp
    rcases (hl' p).mp hp with t | t
    · have := x3 p t
      omega
    · have := y3 p t
      omega
  · intro p q hp t
    by_cases z : p < c
    · have := x4 p q (by omega) t
      omega
    · have := y4 p q (by omega) t
      omega
  · intro u v hu hv
    rw [hs u hu, zb_orT, x5 u v hu hv, y5 u v hu hv]
    exact (zg_A_alt (A := fun p => b ≤ p ∧ p < c) (B := fun p => c ≤ p ∧ p < e) x4 y4 (fun p h1 h2 => by omega) x2 y2 x3 y3 hf' hl' hw1').symm
/-- repetition -/
theorem zr_star_U {o : Nat → Int32} (hi : ∀ p, b ≤ p ∧ p < e → tx p < 2 ∨ ty p < 2) (he9 : e ≤ 9) (H : zr_slot af al ae ao tx ty sa b e i)
    (ho : ∀ p q, bt (o p) q = true ↔ bt (ao p) q = true ∨ (p < 9 ∧ bt (al i) p = true ∧ bt (af i) q = true)) {St : Nat → Nat → Prop}
    (hSt : ∀ u v, St u v ↔ zg_A (1 = (1 : Int32)) (fun p => bt (af i) p = true) (fun p => bt (al i) p = true) (fun p q => bt (o p) q = true) tx ty (zw_w u) (zw_w v)) :
    ∀ u v, u < 31 → v < 31 → (St u v ↔ (u = 0 ∧ v = 0) ∨ zy_U sa St i u v) := by
  obtain ⟨x1, x2, x3, x4, x5⟩ := H
  have ho' : ∀ p q, bt (o p) q = true ↔ bt (ao p) q = true ∨ (bt (al i) p = true ∧ bt (af i) q = true) := by
    intro p q
    rw [ho p q]
    constructor
    · exact fun t => t.imp id (fun t => t.2)
    · intro t
      rcases t with t | t
      · exact Or.inl t
      · have := x3 p t.1
        exact Or.inr ⟨by omega, t⟩
  intro u v hu hv
  have hu4 := zw_le4 hu
  have hv4 := zw_le4 hv
  rw [hSt u v, zg_A_star (E := ae i = 1) (B := fun p => b ≤ p ∧ p < e) x2 hi ho' rfl]
  constructor
  · intro h
    rcases h with h | ⟨p, hp, q, hq, c0, d1, d2⟩
    · exact Or.inl ⟨zw_nil hu h.1, zw_nil hv h.2⟩
    · have hp' : p ≤ zw_l u := hp
      have hq' : q ≤ zw_l v := hq
      have g1 := zw_hd u hu p (by omega)
      have g2 := zw_hd v hv q (by omega)
      have g3 := zw_tl u hu p (by omega)
      have g4 := zw_tl v hv q (by omega)
      rw [← g1.1, ← g2.1] at d1
      rw [← g3.1, ← g4.1] at d2
      exact Or.inr ⟨p, hp, q, hq, c0, (x5 _ _ g1.2 g2.2).mpr d1, (hSt _ _).mpr d2⟩
  · intro h
    rcases h with h | ⟨p, hp, q, hq, c0, d1, d2⟩
    · rw [h.1, h.2]
      exact Or.inl ⟨zw_0, zw_0⟩
    · have g1 := zw_hd u hu p (by omega)
      have g2 := zw_hd v hv q (by omega)
      have g3 := zw_tl u hu p (by omega)
      have g4 := zw_tl v hv q (by omega)
      have d1' := (x5 _ _ g1.2 g2.2).mp d1
      have d2' := (hSt _ _).mp d2
      rw [g1.1, g2.1] at d1'
      rw [g3.1, g4.1] at d2'
      exact Or.inr ⟨p, hp, q, hq, c0, d1', d2'⟩
theorem zr_slot_star {ae' o sb : Nat → Int32} (H : zr_slot af al ae ao tx ty sa b e i) (ew : ae' i = 1)
    (ho : ∀ p q, bt (o p) q = true ↔ bt (ao p) q = true ∨ (p < 9 ∧ bt (al i) p = true ∧ bt (af i) q = true))
    (hs : ∀ u v, u < 31 → v < 31 → (bt (sb (31 * i + u)) v = true ↔ zg_A (1 = (1 : Int32)) (fun p => bt (af i) p = true) (fun p => bt (al i) p = true) (fun p q => bt (o p) q = true) tx ty (zw_w u) (zw_w v))) :
    zr_slot af al ae' o tx ty sb b e i := by
  obtain ⟨x1, x2, x3, x4, x5⟩ := H
  refine ⟨Or.inr ew, x2, x3, ?_, ?_⟩
  · intro p q hp hq
    rcases (ho p q).mp hq with t | t
    · exact x4 p q hp t
    · exact x2 q t.2.2
  · rw [ew]
    exact hs
/-- turn -/
theorem zr_slot_turn {tx' ty' : Nat → Nat} {sb : Nat → Int32} (H : zr_slot af al ae ao tx ty sa b e i) (hx : ∀ p, b ≤ p ∧ p < e → tx' p = ty p) (hy : ∀ p, b ≤ p ∧ p < e → ty' p = tx p)
    (hs : ∀ u v, u < 31 → v < 31 → (bt (sb (31 * i + u)) v = true ↔ bt (sa (31 * i + v)) u = true)) : zr_slot af al ae ao tx' ty' sb b e i := by
  obtain ⟨x1, x2, x3, x4, x5⟩ := H
  refine ⟨x1, x2, x3, x4, ?_⟩
  intro u v hu hv
  rw [hs u v hu hv, x5 v u hv hu]
  exact (zg_A_turn (B := fun p => b ≤ p ∧ p < e) x4 x2 hx hy).symm
/-- define -/
theorem zr_use_def {o k sb : Nat → Int32} (H : zr_slot af al ae ao tx ty sa b e i) (he9 : e ≤ 9) (ht : ∀ p, p < e → tx p ≤ 2 ∧ ty p ≤ 2 ∧ (tx p < 2 ∨ ty p < 2)) (ho : ∀ j, j < e → o j = ao j)
    (hk : ∀ i j, i < 9 → (bt (k i) j = true ↔ j < e ∧ i = 3 * tx j + ty j)) (hs : ∀ u, u < 31 → sb (186 + u) = sa (31 * i + u)) : zr_use (af i) (al i) (ae i) o k sb := by
  obtain ⟨x1, x2, x3, x4, x5⟩ := H
  refine ⟨b, e, tx, ty, ⟨he9, x2, ?_, fun p hp => ht p hp.2, fun j p hj hp => (hk j p hj).trans ⟨fun t => t.2, fun t => ⟨hp.2, t⟩⟩⟩, x1, x3, ?_⟩
  · intro p q hp hq
    rw [ho p hp.2] at hq
    exact x4 p q hp hq
  · intro u v hu hv
    rw [hs u hu, x5 u v hu hv]
    exact (zg_A_cgr (B := fun p => b ≤ p ∧ p < e) x4 x2 Iff.rfl (fun _ => Iff.rfl) (fun p q hp => by rw [ho p hp.2]) (fun _ _ => Iff.rfl) (fun _ _ => rfl) (fun _ _ => rfl)).symm
end
end
section
/-! the stack after each making call -/
def zr_lo (lo : Nat → Nat) (k x : Nat) : Nat → Nat := fun i => if i = k then x else lo i
theorem zr_lo_s {lo : Nat → Nat} {k x : Nat} : zr_lo lo k x k = x := if_pos rfl
theorem zr_lo_n {lo : Nat → Nat} {k x i : Nat} (h : i ≠ k) : zr_lo lo k x i = lo i := if_neg h
section
variable {aw af al ae ax ay ao sa sb : Nat → Int32} {tx ty lo : Nat → Nat} {h g m c : Nat}
theorem zr_stk_pair1 (hh : h < 6) (hm : m < 18) (hc : c < 9) (hlc : lo h ≤ c) (hw : ∀ i, i < h → aw i = nI (lo i) ∧ lo i ≤ lo (i + 1))
    (ht : ∀ p, p < lo h → ax p = nI (tx p) ∧ ay p = nI (ty p) ∧ tx p ≤ 2 ∧ ty p ≤ 2 ∧ (tx p < 2 ∨ ty p < 2)) (hsl : ∀ i, i < h → zr_slot af al ae ao tx ty sa (lo i) (lo (i + 1)) i)
    (hs1 : ∀ j, ¬ (31 * h ≤ j ∧ j < 31 * h + 31) → sb j = sa j) (hs2 : ∀ u v, u < 31 → v < 31 → (bt (sb (31 * h + u)) v = true ↔ u = zw_i 2 ∧ v = zw_i 2)) :
    zr_stk (nI (h + 1)) (nI (m + 1)) (nI (c + 1)) (nI (lo h)) (upd aw h (nI (lo h))) (upd af h 0) (upd al h 0) (upd ae h 1) ax ay ao (nI (h + 1)) (nI (m + 1)) (nI (c + 1)) sb := by
  refine ⟨h + 1, m + 1, c + 1, zr_lo lo (h + 1) (lo h), tx, ty, ⟨rfl, rfl, rfl, by rw [zr_lo_s]⟩, ⟨rfl, rfl, rfl⟩, ⟨by omega, by omega, by omega, by rw [zr_lo_s]; omega⟩, ?_, ?_, ?_⟩
  · intro i hi
    by_cases e : i = h
    · subst e
      rw [pk_us, zr_lo_n (by omega), zr_lo_s]
      exact ⟨rfl, Nat.le_refl _⟩
    · rw [pk_un e, zr_lo_n (by omega), zr_lo_n (by omega)]
      exact hw i (by omega)
  · intro p hp
    rw [zr_lo_s] at hp
    exact ht p hp
  · intro i hi
    by_cases e : i = h
    · subst e
      rw [zr_lo_n (by omega), zr_lo_s]
      exact zr_slot_none pk_us pk_us pk_us hs2
    · rw [zr_lo_n (by omega), zr_lo_n (by omega)]
      exact zr_slot_fr (hsl i (by omega)) (pk_un e) (pk_un e) (pk_un e) (fun _ _ _ => Iff.rfl) (fun _ _ => rfl) (fun _ _ => rfl) (fun u hu => hs1 _ (by omega))
theorem zr_stk_pair2 {x y : Nat} (hx : x ≤ 2) (hy : y ≤ 2) (hxy : ¬ (x = 2 ∧ y = 2)) (hh : h < 6) (hm : m < 18) (hc : c < 9) (hlc : lo h ≤ c) (hw : ∀ i, i < h → aw i = nI (lo i) ∧ lo i ≤ lo (i + 1))
    (ht : ∀ p, p < lo h → ax p = nI (tx p) ∧ ay p = nI (ty p) ∧ tx p ≤ 2 ∧ ty p ≤ 2 ∧ (tx p < 2 ∨ ty p < 2)) (hsl : ∀ i, i < h → zr_slot af al ae ao tx ty sa (lo i) (lo (i + 1)) i)
    (hs1 : ∀ j, ¬ (31 * h ≤ j ∧ j < 31 * h + 31) → sb j = sa j) (hs2 : ∀ u v, u < 31 → v < 31 → (bt (sb (31 * h + u)) v = true ↔ u = zw_i x ∧ v = zw_i y)) :
    zr_stk (nI (h + 1)) (nI (m + 1)) (nI (c + 1)) (nI (lo h + 1)) (upd aw h (nI (lo h))) (upd af h ((1 : Int32) <<< (nI (lo h) &&& 31))) (upd al h ((1 : Int32) <<< (nI (lo h) &&& 31))) (upd ae h 0)
      (upd ax (lo h) (nI x)) (upd ay (lo h) (nI y)) (upd ao (lo h) 0) (nI (h + 1)) (nI (m + 1)) (nI (c + 1)) sb := by
  refine ⟨h + 1, m + 1, c + 1, zr_lo lo (h + 1) (lo h + 1), zr_lo tx (lo h) x, zr_lo ty (lo h) y, ⟨rfl, rfl, rfl, by rw [zr_lo_s]⟩, ⟨rfl, rfl, rfl⟩, ⟨by omega, by omega, by omega, by rw [zr_lo_s]; omega⟩, ?_, ?_, ?_⟩
  · intro i hi
    by_cases e : i = h
    · subst e
      rw [pk_us, zr_lo_n (by omega), zr_lo_s]
      exact ⟨rfl, by omega⟩
    · rw [pk_un e, zr_lo_n (by omega), zr_lo_n (by omega)]
      exact hw i (by omega)
  · intro p hp
    rw [zr_lo_s] at hp
    by_cases e : p = lo h
    · subst e
      rw [pk_us, pk_us, zr_lo_s, zr_lo_s]
      exact ⟨rfl, rfl, hx, hy, by omega⟩
    · rw [pk_un e, pk_un e, zr_lo_n e, zr_lo_n e]
      exact ht p (by omega)
  · intro i hi
    by_cases e : i = h
    · subst e
      rw [zr_lo_n (by omega), zr_lo_s]
      exact zr_slot_one (by omega) hx hy pk_us pk_us pk_us pk_us zr_lo_s zr_lo_s hs2
    · rw [zr_lo_n (by omega), zr_lo_n (by omega)]
      have hmo : lo (i + 1) ≤ lo h := zr_mono2 (fun j hj => (hw j hj).2) (by omega) (Nat.le_refl _)
      have hne : ∀ p, lo i ≤ p ∧ p < lo (i + 1) → p ≠ lo h := fun p hp => by omega
      exact zr_slot_fr (hsl i (by omega)) (pk_un e) (pk_un e) (pk_un e) (fun p q hp => by rw [pk_un (hne p hp)]) (fun p hp => zr_lo_n (hne p hp)) (fun p hp => zr_lo_n (hne p hp)) (fun u hu => hs1 _ (by omega))
theorem zr_stk_cat {o : Nat → Int32} {f l w : Int32} (hh : g + 2 ≤ 6) (hm : m < 18) (hc : c ≤ 9) (hlc : lo (g + 2) ≤ c) (hw : ∀ i, i < g + 2 → aw i = nI (lo i) ∧ lo i ≤ lo (i + 1))
    (ht : ∀ p, p < lo (g + 2) → ax p = nI (tx p) ∧ ay p = nI (ty p) ∧ tx p ≤ 2 ∧ ty p ≤ 2 ∧ (tx p < 2 ∨ ty p < 2)) (hsl : ∀ i, i < g + 2 → zr_slot af al ae ao tx ty sa (lo i) (lo (i + 1)) i)
    (ho : ∀ p q, bt (o p) q = true ↔ bt (ao p) q = true ∨ (p < 9 ∧ bt (al g) p = true ∧ bt (af (g + 1)) q = true))
    (hf : ∀ p, bt f p = true ↔ bt (af g) p = true ∨ (ae g = 1 ∧ bt (af (g + 1)) p = true))
    (hl : ∀ p, bt l p = true ↔ (ae (g + 1) = 1 ∧ bt (al g) p = true) ∨ bt (al (g + 1)) p = true) (hw0 : w = 0 ∨ w = 1) (hw1 : w = 1 ↔ ae g = 1 ∧ ae (g + 1) = 1)
    (hs1 : ∀ j, j < 217 → ¬ (31 * g ≤ j ∧ j < 31 * g + 31) → sb j = sa j) (hs2 : ∀ u v, u < 31 → v < 31 → (bt (sb (31 * g + u)) v = true ↔ zy_P sa g (g + 1) u v)) :
    zr_stk (nI (g + 1)) (nI (m + 1)) (nI c) (nI (lo (g + 2))) aw (upd af g f) (upd al g l) (upd ae g w) ax ay o (nI (g + 1)) (nI (m + 1)) (nI c) sb := by
  have hx := hsl g (by omega)
  have hy := hsl (g + 1) (by omega)
  refine ⟨g + 1, m + 1, c, zr_lo lo (g + 1) (lo (g + 2)), tx, ty, ⟨rfl, rfl, rfl, by rw [zr_lo_s]⟩, ⟨rfl, rfl, rfl⟩, ⟨by omega, by omega, by omega, by rw [zr_lo_s]; omega⟩, ?_, ?_, ?_⟩
  · intro i hi
    refine ⟨?_, ?_⟩
    · rw [zr_lo_n (by omega)]
      exact (hw i (by omega)).1
    · by_cases e : i = g
      · subst e
        rw [zr_lo_n (by omega), zr_lo_s]
        exact Nat.le_trans (hw i (by omega)).2 (hw (i + 1) (by omega)).2
      · rw [zr_lo_n (by omega), zr_lo_n (by omega)]
        exact (hw i (by omega)).2
  · intro p hp
    rw [zr_lo_s] at hp
    exact ht p hp
  · intro i hi
    by_cases e : i = g
    · subst e
      rw [zr_lo_n (by omega), zr_lo_s]
      exact zr_slot_cat (by omega) (hw i (by omega)).2 (hw (i + 1) (by omega)).2 (by omega) hx hy pk_us pk_us pk_us ho hf hl hw0 hw1 hs2
    · rw [zr_lo_n (by omega), zr_lo_n (by omega)]
      have hmo : lo (i + 1) ≤ lo g := zr_mono2 (h := g + 2) (fun j hj => (hw j hj).2) (by omega) (by omega)
      refine zr_slot_fr (hsl i (by omega)) (pk_un e) (pk_un e) (pk_un e) (fun p q hp => ?_) (fun _ _ => rfl) (fun _ _ => rfl) (fun u hu => hs1 _ (by omega) (by omega))
      rw [ho p q]
      refine ⟨fun t => t.elim id (fun t => ?_), Or.inl⟩
      have := hx.2.2.1 p t.2.1
      omega
theorem zr_stk_alt {w : Int32} (hh : g + 2 ≤ 6) (hm : m < 18) (hc : c ≤ 9) (hlc : lo (g + 2) ≤ c) (hw : ∀ i, i < g + 2 → aw i = nI (lo i) ∧ lo i ≤ lo (i + 1))
    (ht : ∀ p, p < lo (g + 2) → ax p = nI (tx p) ∧ ay p = nI (ty p) ∧ tx p ≤ 2 ∧ ty p ≤ 2 ∧ (tx p < 2 ∨ ty p < 2)) (hsl : ∀ i, i < g + 2 → zr_slot af al ae ao tx ty sa (lo i) (lo (i + 1)) i)
    (hw0 : w = 0 ∨ w = 1) (hw1 : w = 1 ↔ ae g = 1 ∨ ae (g + 1) = 1) (hs : ∀ j, sb j = if 31 * g ≤ j ∧ j < 31 * g + 31 then sa j ||| sa (j + 31) else sa j) :
    zr_stk (nI (g + 1)) (nI (m + 1)) (nI c) (nI (lo (g + 2))) aw (upd af g (af g ||| af (g + 1))) (upd al g (al g ||| al (g + 1))) (upd ae g w) ax ay ao (nI (g + 1)) (nI (m + 1)) (nI c) sb := by
  have hx := hsl g (by omega)
  have hy := hsl (g + 1) (by omega)
  refine ⟨g + 1, m + 1, c, zr_lo lo (g + 1) (lo (g + 2)), tx, ty, ⟨rfl, rfl, rfl, by rw [zr_lo_s]⟩, ⟨rfl, rfl, rfl⟩, ⟨by omega, by omega, by omega, by rw [zr_lo_s]; omega⟩, ?_, ?_, ?_⟩
  · intro i hi
    refine ⟨?_, ?_⟩
    · rw [zr_lo_n (by omega)]
      exact (hw i (by omega)).1
    · by_cases e : i = g
      · subst e
        rw [zr_lo_n (by omega), zr_lo_s]
        exact Nat.le_trans (hw i (by omega)).2 (hw (i + 1) (by omega)).2
      · rw [zr_lo_n (by omega), zr_lo_n (by omega)]
        exact (hw i (by omega)).2
  · intro p hp
    rw [zr_lo_s] at hp
    exact ht p hp
  · intro i hi
    by_cases e : i = g
    · subst e
      rw [zr_lo_n (by omega), zr_lo_s]
      refine zr_slot_alt (hw i (by omega)).2 (hw (i + 1) (by omega)).2 hx hy pk_us pk_us pk_us hw0 hw1 ?_
      intro u hu
      rw [hs (31 * i + u), if_pos ⟨by omega, by omega⟩]
      exact congrArg (fun k => sa (31 * i + u) ||| sa k) (by omega)
    · rw [zr_lo_n (by omega), zr_lo_n (by omega)]
      refine zr_slot_fr (hsl i (by omega)) (pk_un e) (pk_un e) (pk_un e) (fun _ _ _ => Iff.rfl) (fun _ _ => rfl) (fun _ _ => rfl) (fun u hu => ?_)
      rw [hs (31 * i + u), if_neg (by omega)]
theorem zr_stk_star {o : Nat → Int32} (hh : g + 1 ≤ 6) (hm : m < 18) (hc : c ≤ 9) (hlc : lo (g + 1) ≤ c) (hw : ∀ i, i < g + 1 → aw i = nI (lo i) ∧ lo i ≤ lo (i + 1))
    (ht : ∀ p, p < lo (g + 1) → ax p = nI (tx p) ∧ ay p = nI (ty p) ∧ tx p ≤ 2 ∧ ty p ≤ 2 ∧ (tx p < 2 ∨ ty p < 2)) (hsl : ∀ i, i < g + 1 → zr_slot af al ae ao tx ty sa (lo i) (lo (i + 1)) i)
    (ho : ∀ p q, bt (o p) q = true ↔ bt (ao p) q = true ∨ (p < 9 ∧ bt (al g) p = true ∧ bt (af g) q = true))
    (hs1 : ∀ j, j < 217 → ¬ (31 * g ≤ j ∧ j < 31 * g + 31) → sb j = sa j)
    (hs2 : ∀ u v, u < 31 → v < 31 → (bt (sb (31 * g + u)) v = true ↔ zg_A (1 = (1 : Int32)) (fun p => bt (af g) p = true) (fun p => bt (al g) p = true) (fun p q => bt (o p) q = true) tx ty (zw_w u) (zw_w v))) :
    zr_stk (nI (g + 1)) (nI (m + 1)) (nI c) (nI (lo (g + 1))) aw af al (upd ae g 1) ax ay o (nI (g + 1)) (nI (m + 1)) (nI c) sb := by
  have hx := hsl g (by omega)
  refine ⟨g + 1, m + 1, c, lo, tx, ty, ⟨rfl, rfl, rfl, rfl⟩, ⟨rfl, rfl, rfl⟩, ⟨by omega, by omega, by omega, by omega⟩, hw, ht, ?_⟩
  intro i hi
  by_cases e : i = g
  · subst e
    exact zr_slot_star hx pk_us ho hs2
  · have hmo : lo (i + 1) ≤ lo g := zr_mono2 (h := g + 1) (fun j hj => (hw j hj).2) (by omega) (by omega)
    refine zr_slot_fr (hsl i (by omega)) rfl rfl (pk_un e) (fun p q hp => ?_) (fun _ _ => rfl) (fun _ _ => rfl) (fun u hu => hs1 _ (by omega) (by omega))
    rw [ho p q]
    refine ⟨fun t => t.elim id (fun t => ?_), Or.inl⟩
    have := hx.2.2.1 p t.2.1
    omega
theorem zr_stk_turn {x y : Nat → Int32} (hh : g + 1 ≤ 6) (hm : m < 18) (hc : c ≤ 9) (hlc : lo (g + 1) ≤ c) (hw : ∀ i, i < g + 1 → aw i = nI (lo i) ∧ lo i ≤ lo (i + 1))
    (ht : ∀ p, p < lo (g + 1) → ax p = nI (tx p) ∧ ay p = nI (ty p) ∧ tx p ≤ 2 ∧ ty p ≤ 2 ∧ (tx p < 2 ∨ ty p < 2)) (hsl : ∀ i, i < g + 1 → zr_slot af al ae ao tx ty sa (lo i) (lo (i + 1)) i)
    (hx : ∀ j, x j = if lo g ≤ j ∧ j < lo (g + 1) then ay j else ax j) (hy : ∀ j, y j = if lo g ≤ j ∧ j < lo (g + 1) then ax j else ay j)
    (hs1 : ∀ j, j < 217 → ¬ (31 * g ≤ j ∧ j < 31 * g + 31) → sb j = sa j)
    (hs2 : ∀ u v, u < 31 → v < 31 → (bt (sb (31 * g + u)) v = true ↔ bt (sa (31 * g + v)) u = true)) :
    zr_stk (nI (g + 1)) (nI (m + 1)) (nI c) (nI (lo (g + 1))) aw af al ae x y ao (nI (g + 1)) (nI (m + 1)) (nI c) sb := by
  refine ⟨g + 1, m + 1, c, lo, (fun p => if lo g ≤ p ∧ p < lo (g + 1) then ty p else tx p), (fun p => if lo g ≤ p ∧ p < lo (g + 1) then tx p else ty p), ⟨rfl, rfl, rfl, rfl⟩, ⟨rfl, rfl, rfl⟩, ⟨by omega, by omega, by omega, by omega⟩, hw, ?_, ?_⟩
  · intro p hp
    obtain ⟨t1, t2, t3, t4, t5⟩ := ht p hp
    rw [hx p, hy p]
    by_cases z : lo g ≤ p ∧ p < lo (g + 1)
    · simp only [if_pos z]
      exact ⟨t2, t1, t4, t3, t5.symm⟩
    · simp only [if_neg z]
      exact ⟨t1, t2, t3, t4, t5⟩
  · intro i hi
    by_cases e : i = g
    · subst e
      exact zr_slot_turn (hsl i hi) (fun p hp => if_pos hp) (fun p hp => if_pos hp) hs2
    · have hmo : lo (i + 1) ≤ lo g := zr_mono2 (h := g + 1) (fun j hj => (hw j hj).2) (by omega) (by omega)
      have hne : ∀ p, lo i ≤ p ∧ p < lo (i + 1) → ¬ (lo g ≤ p ∧ p < lo (g + 1)) := fun p hp => by omega
      exact zr_slot_fr (hsl i (by omega)) rfl rfl rfl (fun _ _ _ => Iff.rfl) (fun p hp => if_neg (hne p hp)) (fun p hp => if_neg (hne p hp)) (fun u hu => hs1 _ (by omega) (by omega))
theorem zr_stk_0 {aw af al ae ax ay ao sa : Nat → Int32} : zr_stk 0 0 0 0 aw af al ae ax ay ao 0 0 0 sa := by
  refine ⟨0, 0, 0, fun _ => 0, fun _ => 0, fun _ => 0, ⟨rfl, rfl, rfl, rfl⟩, ⟨rfl, rfl, rfl⟩, ⟨by omega, by omega, by omega, Nat.le_refl 0⟩, ?_, ?_, ?_⟩
  · intro i hi
    omega
  · intro p hp
    exact absurd hp (Nat.not_lt_zero _)
  · intro i hi
    omega
end
end
section
/-! the owed statements of the making methods -/
section
variable {fh fm fc fp uf ul ue fr : Int32} {aw af al ae ax ay ao au ak ar aq an : Nat → Int32}
theorem zx_init_103 {post : SX → Prop} (hp : ∀ l : Nat → Int32, zr_len l → post (fh, fm, fc, fp, uf, ul, ue, fr, aw, af, al, ae, ax, ay, ao, au, ak, ar, aq, l)) :
    ∀ (n x : Nat) (l : Nat → Int32), 1 ≤ x → x ≤ 31 → 31 < x + n → (∀ w, w < x → l w = nI (zw_l w)) → wX_init_103 post fh fm fc fp uf ul ue fr n (nI x) aw af al ae ax ay ao au ak ar aq l := by
  intro n
  induction n with
  | zero => intro x l h0 h1 h2; omega
  | succ n ih =>
    intro x l h0 h1 h2 hl
    refine pk_le 31 x (fun z => ?_) (fun z => ?_)
    · have e : x = 31 := by omega
      subst e
      exact hp l hl
    · have e1 : nI x - 1 = nI (x - 1) := pk_sub (b := 1) h0
      have e2 : nI (x - 1) >>> ((1 : Int32) &&& 31) = nI ((x - 1) / 2) := pk_shrN (by omega) _ 1 (by decide)
      rw [e1, e2, nI_clamp (n := (x - 1) / 2) (by omega), nI_clamp (n := x) (by omega)]
      refine And.intro (vp_in_nI (by omega) (by decide)) (And.intro (vp_in_nI z (by decide)) ?_)
      intro l' el y ey
      rw [nI_1] at ey
      subst ey
      refine ih (x + 1) l' (by omega) (by omega) (by omega) ?_
      intro w hw
      rw [el]
      by_cases e : w = x
      · subst e
        rw [pk_us, hl _ (by omega), nI_1, zw_up w z (by omega)]
      · rw [pk_un e]
        exact hl w (by omega)
end
theorem i_vc0 : wpX_init (fun u => wpY_init (fun v => i_Rel 0 u v)) := by
  refine Exists.intro 32 (zx_init_103 ?_ 32 1 (fun _ => 0) (by omega) (by omega) (by omega) ?_)
  · intro l hl
    refine And.intro zr_stk_0 (And.intro ?_ (And.intro ?_ hl))
    · refine ⟨0, 0, fun _ => 0, fun _ => 0, ⟨by omega, fun p hp => absurd hp zb_0T, fun p q hp => by omega, fun p hp => by omega, fun k p hk hp => by omega⟩, Or.inl rfl, fun p hp => absurd hp zb_0T, ?_⟩
      intro u v hu hv
      constructor
      · intro hp
        exact absurd hp zb_0T
      · intro ⟨l, hl, _⟩
        cases l with
        | nil => exact absurd (show (0 : Int32) = 1 from hl) (by decide)
        | cons a l => exact absurd hl.1 zb_0T
    · intro h
      exact absurd rfl h
  · intro w hw
    have e : w = 0 := by omega
    subst e
    rfl
theorem zr_ne {a b : Nat} (h : a ≠ b) (ha : a < 2 ^ 31) (hb : b < 2 ^ 31) : ¬ nI a = nI b := fun z => h ((nI_eq ha hb).mp z)
theorem i_vc_pair {k : Nat} {u : SX} {v : SY} (I : i_Rel k u v) (hk : k + 5 ≤ 2560) (v1 : Int32) (v2 : Int32) : wpX_pair (fun r u' => wpY_pair (fun r' v' => r' = r ∧ i_Rel (k + 5) u' v') v v1 v2) u v1 v2 := by
  refine zr_el (P := fun u v => wpX_pair (fun r u' => wpY_pair (fun r' v' => r' = r ∧ i_Rel (k + 5) u' v') v v1 v2) u v1 v2) ?_ I
  intro fh fm fc fp uf ul ue fr aw af al ae ax ay ao au ak ar aq an yd ys yp sa hst hus hro hln
  have J : i_Rel (k + 5) (fh, fm, fc, fp, uf, ul, ue, fr, aw, af, al, ae, ax, ay, ao, au, ak, ar, aq, an) (yd, ys, yp, sa) := And.intro hst (And.intro hus (And.intro hro hln))
  obtain ⟨h, m, c, lo, tx, ty, ⟨rfl, rfl, rfl, rfl⟩, ⟨rfl, rfl, rfl⟩, ⟨h6, m18, c9, hlc⟩, hw, ht, hsl⟩ := hst
  by_cases a1 : v1 < 0
  · exact br_t a1 (br_t a1 ⟨rfl, J⟩)
  by_cases a2 : 2 < v1
  · exact br_f a1 (br_t a2 (br_f a1 (br_t a2 ⟨rfl, J⟩)))
  by_cases a3 : v2 < 0
  · exact br_f a1 (br_f a2 (br_t a3 (br_f a1 (br_f a2 (br_t a3 ⟨rfl, J⟩)))))
  by_cases a4 : v2 ≤ 2
  rotate_left
  · exact br_f a1 (br_f a2 (br_f a3 (br_f a4 (br_f a1 (br_f a2 (br_f a3 (br_f a4 ⟨rfl, J⟩)))))))
  by_cases b1 : m = 18
  · subst b1
    exact br_f a1 (br_f a2 (br_f a3 (br_t a4 (br_t rfl (br_f a1 (br_f a2 (br_f a3 (br_t a4 (br_t rfl ⟨rfl, J⟩)))))))))
  have c1 : ¬ nI m = 18 := zr_ne (b := 18) b1 (by omega) (by decide)
  by_cases b2 : h = 6
  · subst b2
    exact br_f a1 (br_f a2 (br_f a3 (br_t a4 (br_f c1 (br_t rfl (br_f a1 (br_f a2 (br_f a3 (br_t a4 (br_f c1 (br_t rfl ⟨rfl, J⟩)))))))))))
  have c2 : ¬ nI h = 6 := zr_ne (b := 6) b2 (by omega) (by decide)
  by_cases b3 : c = 9
  · subst b3
    exact br_f a1 (br_f a2 (br_f a3 (br_t a4 (br_f c1 (br_f c2 (br_t rfl (br_f a1 (br_f a2 (br_f a3 (br_t a4 (br_f c1 (br_f c2 (br_t rfl ⟨rfl, J⟩)))))))))))))
  obtain ⟨x, hx, rfl⟩ := nI_of2 (M := 2) (n := 2) (by decide) a1 (Int32.not_lt.mp a2)
  obtain ⟨y, hy, rfl⟩ := nI_of2 (M := 2) (n := 2) (by decide) a3 a4
  refine zx_pair (by omega) (by omega) (by omega) (by omega) hx hy (fun z => ?_) (fun z => ?_)
  · refine zy_pair hx hy (by omega) (by omega) (by omega) ?_
    intro sb hs1 hs2
    have fr1 : ∀ u, u < 31 → sb (186 + u) = sa (186 + u) := fun u hu => hs1 _ (by omega)
    rw [z.1, z.2] at hs2
    exact And.intro rfl (And.intro (zr_stk_pair1 (by omega) (by omega) (by omega) hlc hw ht hsl hs1 hs2) (And.intro (zr_use_fr hus fr1) (And.intro (zr_row_fr hro fr1) hln)))
  · refine zy_pair hx hy (by omega) (by omega) (by omega) ?_
    intro sb hs1 hs2
    have fr1 : ∀ u, u < 31 → sb (186 + u) = sa (186 + u) := fun u hu => hs1 _ (by omega)
    exact And.intro rfl (And.intro (zr_stk_pair2 hx hy z (by omega) (by omega) (by omega) hlc hw ht hsl hs1 hs2) (And.intro (zr_use_fr hus fr1) (And.intro (zr_row_fr hro fr1) hln)))
theorem i_vc_cat {k : Nat} {u : SX} {v : SY} (I : i_Rel k u v) (hk : k + 5 ≤ 2560) : wpX_cat (fun r u' => wpY_cat (fun r' v' => r' = r ∧ i_Rel (k + 5) u' v') v) u := by
  refine zr_el (P := fun u v => wpX_cat (fun r u' => wpY_cat (fun r' v' => r' = r ∧ i_Rel (k + 5) u' v') v) u) ?_ I
  intro fh fm fc fp uf ul ue fr aw af al ae ax ay ao au ak ar aq an yd ys yp sa hst hus hro hln
  have J : i_Rel (k + 5) (fh, fm, fc, fp, uf, ul, ue, fr, aw, af, al, ae, ax, ay, ao, au, ak, ar, aq, an) (yd, ys, yp, sa) := And.intro hst (And.intro hus (And.intro hro hln))
  obtain ⟨h, m, c, lo, tx, ty, ⟨rfl, rfl, rfl, rfl⟩, ⟨rfl, rfl, rfl⟩, ⟨h6, m18, c9, hlc⟩, hw, ht, hsl⟩ := hst
  by_cases b1 : m = 18
  · subst b1
    exact br_t rfl (br_f (by decide) (br_t rfl (br_f (by decide) ⟨rfl, J⟩)))
  have c1 : ¬ nI m = 18 := zr_ne (b := 18) b1 (by omega) (by decide)
  by_cases b2 : h < 2
  · have c2 : ¬ 2 ≤ nI h := nI_ge (b := 2) b2 (by decide)
    exact br_f c1 (br_f c2 (br_f (by decide) (br_f c1 (br_f c2 (br_f (by decide) ⟨rfl, J⟩)))))
  obtain ⟨g, rfl⟩ : ∃ g, h = g + 2 := ⟨h - 2, by omega⟩
  refine zx_cat (by omega) h6 (by omega) (hsl g (by omega)).1 (hsl (g + 1) (by omega)).1 ?_
  intro o f l w ho hf hl hw0 hw1
  refine zy_cat (by omega) h6 (by omega) ?_
  intro sb hs1 hs2
  have hs1' : ∀ j, j < 217 → ¬ (31 * g ≤ j ∧ j < 31 * g + 31) → sb j = sa j := hs1
  have fr1 : ∀ u, u < 31 → sb (186 + u) = sa (186 + u) := fun u hu => hs1' _ (by omega) (by omega)
  exact And.intro rfl (And.intro (zr_stk_cat h6 (by omega) c9 hlc hw ht hsl ho hf hl hw0 hw1 hs1' hs2) (And.intro (zr_use_fr hus fr1) (And.intro (zr_row_fr hro fr1) hln)))
theorem i_vc_alt {k : Nat} {u : SX} {v : SY} (I : i_Rel k u v) (hk : k + 5 ≤ 2560) : wpX_alt (fun r u' => wpY_alt (fun r' v' => r' = r ∧ i_Rel (k + 5) u' v') v) u := by
  refine zr_el (P := fun u v => wpX_alt (fun r u' => wpY_alt (fun r' v' => r' = r ∧ i_Rel (k + 5) u' v') v) u) ?_ I
  intro fh fm fc fp uf ul ue fr aw af al ae ax ay ao au ak ar aq an yd ys yp sa hst hus hro hln
  have J : i_Rel (k + 5) (fh, fm, fc, fp, uf, ul, ue, fr, aw, af, al, ae, ax, ay, ao, au, ak, ar, aq, an) (yd, ys, yp, sa) := And.intro hst (And.intro hus (And.intro hro hln))
  obtain ⟨h, m, c, lo, tx, ty, ⟨rfl, rfl, rfl, rfl⟩, ⟨rfl, rfl, rfl⟩, ⟨h6, m18, c9, hlc⟩, hw, ht, hsl⟩ := hst
  by_cases b1 : m = 18
  · subst b1
    exact br_t rfl (br_f (by decide) (br_t rfl (br_f (by decide) ⟨rfl, J⟩)))
  have c1 : ¬ nI m = 18 := zr_ne (b := 18) b1 (by omega) (by decide)
  by_cases b2 : h < 2
  · have c2 : ¬ 2 ≤ nI h := nI_ge (b := 2) b2 (by decide)
    exact br_f c1 (br_f c2 (br_f (by decide) (br_f c1 (br_f c2 (br_f (by decide) ⟨rfl, J⟩)))))
  obtain ⟨g, rfl⟩ : ∃ g, h = g + 2 := ⟨h - 2, by omega⟩
  refine zx_alt (by omega) h6 (by omega) (hsl g (by omega)).1 (hsl (g + 1) (by omega)).1 ?_
  intro w hw0 hw1
  refine zy_alt (by omega) h6 (by omega) ?_
  intro sb hs
  have hs' : ∀ j, sb j = if 31 * g ≤ j ∧ j < 31 * g + 31 then sa j ||| sa (j + 31) else sa j := hs
  have fr1 : ∀ u, u < 31 → sb (186 + u) = sa (186 + u) := fun u hu => by rw [hs' (186 + u), if_neg (by omega)]
  exact And.intro rfl (And.intro (zr_stk_alt h6 (by omega) c9 hlc hw ht hsl hw0 hw1 hs') (And.intro (zr_use_fr hus fr1) (And.intro (zr_row_fr hro fr1) hln)))
theorem i_vc_star {k : Nat} {u : SX} {v : SY} (I : i_Rel k u v) (hk : k + 5 ≤ 2560) : wpX_star (fun r u' => wpY_star (fun r' v' => r' = r ∧ i_Rel (k + 5) u' v') v) u := by
  refine zr_el (P := fun u v => wpX_star (fun r u' => wpY_star (fun r' v' => r' = r ∧ i_Rel (k + 5) u' v') v) u) ?_ I
  intro fh fm fc fp uf ul ue fr aw af al ae ax ay ao au ak ar aq an yd ys yp sa hst hus hro hln
  have J : i_Rel (k + 5) (fh, fm, fc, fp, uf, ul, ue, fr, aw, af, al, ae, ax, ay, ao, au, ak, ar, aq, an) (yd, ys, yp, sa) := And.intro hst (And.intro hus (And.intro hro hln))
  obtain ⟨h, m, c, lo, tx, ty, ⟨rfl, rfl, rfl, rfl⟩, ⟨rfl, rfl, rfl⟩, ⟨h6, m18, c9, hlc⟩, hw, ht, hsl⟩ := hst
  by_cases b1 : m = 18
  · subst b1
    exact br_t rfl (br_f (by decide) (br_t rfl (br_f (by decide) ⟨rfl, J⟩)))
  have c1 : ¬ nI m = 18 := zr_ne (b := 18) b1 (by omega) (by decide)
  by_cases b2 : h = 0
  · subst b2
    exact br_f c1 (br_f (by decide) (br_f (by decide) (br_f c1 (br_t rfl (br_f (by decide) ⟨rfl, J⟩)))))
  obtain ⟨g, rfl⟩ : ∃ g, h = g + 1 := ⟨h - 1, by omega⟩
  refine zx_star (by omega) h6 (by omega) ?_
  intro o ho
  have ho' : ∀ p q, bt (o p) q = true ↔ bt (ao p) q = true ∨ (p < 9 ∧ bt (al g) p = true ∧ bt (af g) q = true) := ho
  have hmo : lo g ≤ lo (g + 1) := (hw g (by omega)).2
  refine zy_star (St := fun u v => zg_A (1 = (1 : Int32)) (fun p => bt (af g) p = true) (fun p => bt (al g) p = true) (fun p q => bt (o p) q = true) tx ty (zw_w u) (zw_w v)) (by omega) h6 (by omega) ?_ ?_
  · exact zr_star_U (i := g) (fun p hp => (ht p hp.2).2.2.2.2) (by omega) (hsl g (by omega)) ho' (fun _ _ => Iff.rfl)
  intro sb hs1 hs2
  have hs1' : ∀ j, j < 217 → ¬ (31 * g ≤ j ∧ j < 31 * g + 31) → sb j = sa j := hs1
  have fr1 : ∀ u, u < 31 → sb (186 + u) = sa (186 + u) := fun u hu => hs1' _ (by omega) (by omega)
  exact And.intro rfl (And.intro (zr_stk_star h6 (by omega) c9 hlc hw ht hsl ho' hs1' hs2) (And.intro (zr_use_fr hus fr1) (And.intro (zr_row_fr hro fr1) hln)))
theorem i_vc_turn {k : Nat} {u : SX} {v : SY} (I : i_Rel k u v) (hk : k + 5 ≤ 2560) : wpX_turn (fun r u' => wpY_turn (fun r' v' => r' = r ∧ i_Rel (k + 5) u' v') v) u := by
  refine zr_el (P := fun u v => wpX_turn (fun r u' => wpY_turn (fun r' v' => r' = r ∧ i_Rel (k + 5) u' v') v) u) ?_ I
  intro fh fm fc fp uf ul ue fr aw af al ae ax ay ao au ak ar aq an yd ys yp sa hst hus hro hln
  have J : i_Rel (k + 5) (fh, fm, fc, fp, uf, ul, ue, fr, aw, af, al, ae, ax, ay, ao, au, ak, ar, aq, an) (yd, ys, yp, sa) := And.intro hst (And.intro hus (And.intro hro hln))
  obtain ⟨h, m, c, lo, tx, ty, ⟨rfl, rfl, rfl, rfl⟩, ⟨rfl, rfl, rfl⟩, ⟨h6, m18, c9, hlc⟩, hw, ht, hsl⟩ := hst
  by_cases b1 : m = 18
  · subst b1
    exact br_t rfl (br_f (by decide) (br_t rfl (br_f (by decide) ⟨rfl, J⟩)))
  have c1 : ¬ nI m = 18 := zr_ne (b := 18) b1 (by omega) (by decide)
  by_cases b2 : h = 0
  · subst b2
    exact br_f c1 (br_f (by decide) (br_f (by decide) (br_f c1 (br_t rfl (br_f (by decide) ⟨rfl, J⟩)))))
  obtain ⟨g, rfl⟩ : ∃ g, h = g + 1 := ⟨h - 1, by omega⟩
  have hwg := hw g (by omega)
  refine zx_turn (b := lo g) (by omega) h6 (by omega) (by omega) hwg.2 hwg.1 ?_
  intro x y hx hy
  refine zy_turn (by omega) h6 (by omega) ?_
  intro sb hs1 hs2
  have hs1' : ∀ j, j < 217 → ¬ (31 * g ≤ j ∧ j < 31 * g + 31) → sb j = sa j := hs1
  have fr1 : ∀ u, u < 31 → sb (186 + u) = sa (186 + u) := fun u hu => hs1' _ (by omega) (by omega)
  exact And.intro rfl (And.intro (zr_stk_turn h6 (by omega) c9 hlc hw ht hsl hx hy hs1' hs2) (And.intro (zr_use_fr hus fr1) (And.intro (zr_row_fr hro fr1) hln)))
theorem i_vc_steps {k : Nat} {u : SX} {v : SY} (I : i_Rel k u v) (hk : k + 5 ≤ 2560) : wpX_steps (fun r => wpY_steps (fun r' => r' = r ∧ i_Rel (k + 5) u v) v) u := by
  refine zr_el (P := fun u v => wpX_steps (fun r => wpY_steps (fun r' => r' = r ∧ i_Rel (k + 5) u v) v) u) ?_ I
  intro fh fm fc fp uf ul ue fr aw af al ae ax ay ao au ak ar aq an yd ys yp sa hst hus hro hln
  have J : i_Rel (k + 5) (fh, fm, fc, fp, uf, ul, ue, fr, aw, af, al, ae, ax, ay, ao, au, ak, ar, aq, an) (yd, ys, yp, sa) := And.intro hst (And.intro hus (And.intro hro hln))
  obtain ⟨h, m, c, lo, tx, ty, ⟨rfl, rfl, rfl, rfl⟩, ⟨rfl, rfl, rfl⟩, ⟨h6, m18, c9, hlc⟩, hw, ht, hsl⟩ := hst
  exact And.intro rfl J
theorem i_vc_depth {k : Nat} {u : SX} {v : SY} (I : i_Rel k u v) (hk : k + 5 ≤ 2560) : wpX_depth (fun r => wpY_depth (fun r' => r' = r ∧ i_Rel (k + 5) u v) v) u := by
  refine zr_el (P := fun u v => wpX_depth (fun r => wpY_depth (fun r' => r' = r ∧ i_Rel (k + 5) u v) v) u) ?_ I
  intro fh fm fc fp uf ul ue fr aw af al ae ax ay ao au ak ar aq an yd ys yp sa hst hus hro hln
  have J : i_Rel (k + 5) (fh, fm, fc, fp, uf, ul, ue, fr, aw, af, al, ae, ax, ay, ao, au, ak, ar, aq, an) (yd, ys, yp, sa) := And.intro hst (And.intro hus (And.intro hro hln))
  obtain ⟨h, m, c, lo, tx, ty, ⟨rfl, rfl, rfl, rfl⟩, ⟨rfl, rfl, rfl⟩, ⟨h6, m18, c9, hlc⟩, hw, ht, hsl⟩ := hst
  exact And.intro rfl J
theorem i_vc_discard {k : Nat} {u : SX} {v : SY} (I : i_Rel k u v) (hk : k + 5 ≤ 2560) : wpX_discard (fun u' => wpY_discard (fun v' => i_Rel (k + 5) u' v') v) u := by
  refine zr_el (P := fun u v => wpX_discard (fun u' => wpY_discard (fun v' => i_Rel (k + 5) u' v') v) u) ?_ I
  intro fh fm fc fp uf ul ue fr aw af al ae ax ay ao au ak ar aq an yd ys yp sa hst hus hro hln
  exact And.intro zr_stk_0 (And.intro hus (And.intro hro hln))
theorem i_vc_define {k : Nat} {u : SX} {v : SY} (I : i_Rel k u v) (hk : k + 5 ≤ 2560) : wpX_define (fun r u' => wpY_define (fun r' v' => r' = r ∧ i_Rel (k + 5) u' v') v) u := by
  refine zr_el (P := fun u v => wpX_define (fun r u' => wpY_define (fun r' v' => r' = r ∧ i_Rel (k + 5) u' v') v) u) ?_ I
  intro fh fm fc fp uf ul ue fr aw af al ae ax ay ao au ak ar aq an yd ys yp sa hst hus hro hln
  have J : i_Rel (k + 5) (fh, fm, fc, fp, uf, ul, ue, fr, aw, af, al, ae, ax, ay, ao, au, ak, ar, aq, an) (yd, ys, yp, sa) := And.intro hst (And.intro hus (And.intro hro hln))
  obtain ⟨h, m, c, lo, tx, ty, ⟨rfl, rfl, rfl, rfl⟩, ⟨rfl, rfl, rfl⟩, ⟨h6, m18, c9, hlc⟩, hw, ht, hsl⟩ := hst
  by_cases b2 : h = 0
  · subst b2
    exact br_t rfl (br_t rfl ⟨rfl, J⟩)
  obtain ⟨g, rfl⟩ : ∃ g, h = g + 1 := ⟨h - 1, by omega⟩
  have hsg := hsl g (by omega)
  refine zx_define (tx := tx) (ty := ty) (by omega) h6 (by omega) hsg.1 (fun j hj => ⟨(ht j hj).1, (ht j hj).2.1, (ht j hj).2.2.1, (ht j hj).2.2.2.1⟩) ?_
  intro o q ho hq
  refine zy_define (by omega) h6 ?_
  intro sb hs
  refine And.intro rfl (And.intro zr_stk_0 (And.intro ?_ (And.intro (fun z => absurd rfl z) hln)))
  exact zr_use_def hsg (by omega) (fun p hp => (ht p hp).2.2) ho hq hs
end
section
/-! counting, and the questions' loops on both sides -/
noncomputable def zq_b (P : Prop) : Nat := @ite Nat P (Classical.propDecidable P) 1 0
theorem zq_b1 {P : Prop} (h : P) : zq_b P = 1 := if_pos h
theorem zq_b0 {P : Prop} (h : ¬ P) : zq_b P = 0 := if_neg h
noncomputable def zq_c (P : Nat → Prop) : Nat → Nat
  | 0 => 0
  | n + 1 => zq_c P n + zq_b (P n)
def zq_s (f : Nat → Nat) : Nat → Nat
  | 0 => 0
  | n + 1 => zq_s f n + f n
theorem zq_c1 {P : Nat → Prop} {n : Nat} (h : P n) : zq_c P (n + 1) = zq_c P n + 1 := congrArg (fun k => zq_c P n + k) (zq_b1 h)
theorem zq_c0 {P : Nat → Prop} {n : Nat} (h : ¬ P n) : zq_c P (n + 1) = zq_c P n := congrArg (fun k => zq_c P n + k) (zq_b0 h)
theorem zq_cle (P : Nat → Prop) : ∀ n, zq_c P n ≤ n := by
  intro n
  induction n with
  | zero => exact Nat.le_refl _
  | succ n ih =>
    by_cases h : P n
    · rw [zq_c1 h]
      omega
    · rw [zq_c0 h]
      omega
theorem zq_cc {P Q : Nat → Prop} : ∀ n, (∀ i, i < n → (P i ↔ Q i)) → zq_c P n = zq_c Q n := by
  intro n
  induction n with
  | zero => intro _; rfl
  | succ n ih =>
    intro h
    have e := ih (fun i hi => h i (by omega))
    by_cases z : P n
    · rw [zq_c1 z, zq_c1 ((h n (by omega)).mp z), e]
    · rw [zq_c0 z, zq_c0 (fun t => z ((h n (by omega)).mpr t)), e]
theorem zq_add {s : Int32} {P : Nat → Prop} {w v : Nat} (hv : v < 32) (h : bt s v = true ↔ P w) : nI (zq_c P w) + ((s >>> (nI v &&& 31)) &&& 1) = nI (zq_c P (w + 1)) := by
  rw [zb_bit s v hv]
  by_cases z : bt s v = true
  · rw [if_pos z, zq_c1 (h.mp z), nI_1]
  · rw [if_neg z, zq_c0 (fun t => z (h.mpr t)), Int32.add_zero]
def zq_L (R : Nat → Nat → Prop) (u w : Nat) : Prop := ∃ v, v < 31 ∧ R u v ∧ R v w
def zq_Li (R : Nat → Nat → Prop) (i u w : Nat) : Prop := ∃ v, v < i ∧ R u v ∧ R v w
section
variable {fh fm fc fp uf ul ue fr : Int32} {aw af al ae ax ay ao au ak ar aq an : Nat → Int32}
variable {R : Nat → Nat → Prop}
theorem zx_sizeOf_4 {post : Int32 → Prop} {s : Int32} {P : Nat → Prop} (hs : ∀ v, v < 31 → (bt s v = true ↔ P v)) (hp : post (nI (zq_c P 31))) :
    ∀ n w : Nat, w ≤ 31 → 31 < w + n → wX_sizeOf_4 post s fh fm fc fp uf ul ue fr aw af al ae ax ay ao au ak ar aq an n (nI (zq_c P w)) (nI w) := by
  intro n
  induction n with
  | zero => intro w h1 h2; omega
  | succ n ih =>
    intro w h1 h2
    refine pk_le 31 w (fun z => ?_) (fun z => ?_)
    · have e : w = 31 := by omega
      subst e
      exact hp
    · intro a ea y ey
      rw [nI_1] at ey
      rw [zq_add (by omega) (hs w z)] at ea
      subst ea ey
      exact ih (w + 1) (by omega) (by omega)
theorem zx_sizeOf {post : Int32 → Prop} {s : Int32} {P : Nat → Prop} (hs : ∀ v, v < 31 → (bt s v = true ↔ P v)) (hp : post (nI (zq_c P 31))) : wpX_sizeOf post (fh, fm, fc, fp, uf, ul, ue, fr, aw, af, al, ae, ax, ay, ao, au, ak, ar, aq, an) s :=
  Exists.intro 32 (zx_sizeOf_4 hs hp 32 0 (by omega) (by omega))
theorem zx_sources_28 {post : Int32 → SX → Prop} {v : Nat} (hv : v < 31) (hR : ∀ u v, u < 31 → v < 31 → (bt (ar u) v = true ↔ R u v)) (hp : post (nI (zq_c (fun u => R u v) 31)) (fh, fm, fc, fp, uf, ul, ue, fr, aw, af, al, ae, ax, ay, ao, au, ak, ar, aq, an)) :
    ∀ n u : Nat, u ≤ 31 → 31 < u + n → wX_sources_28 post (nI v) fh fm fc fp uf ul ue fr aw af al ae ax ay ao au ak ar aq an n (nI (zq_c (fun u => R u v) u)) (nI u) := by
  intro n
  induction n with
  | zero => intro w h1 h2; omega
  | succ n ih =>
    intro u h1 h2
    refine pk_le 31 u (fun z => ?_) (fun z => ?_)
    · have e : u = 31 := by omega
      subst e
      exact hp
    · rw [nI_clamp (n := u) (by omega), zq_add (P := fun u => R u v) (by omega) (hR u v z hv)]
      refine And.intro (vp_in_nI z (by decide)) ?_
      intro a ea y ey
      rw [nI_1] at ey
      subst ea ey
      exact ih (u + 1) (by omega) (by omega)
theorem zx_fixed_8 {post : Int32 → SX → Prop} (hR : ∀ u v, u < 31 → v < 31 → (bt (ar u) v = true ↔ R u v)) (hp : post (nI (zq_c (fun u => R u u) 31)) (fh, fm, fc, fp, uf, ul, ue, fr, aw, af, al, ae, ax, ay, ao, au, ak, ar, aq, an)) :
    ∀ n u : Nat, u ≤ 31 → 31 < u + n → wX_fixed_8 post fh fm fc fp uf ul ue fr aw af al ae ax ay ao au ak ar aq an n (nI (zq_c (fun u => R u u) u)) (nI u) := by
  intro n
  induction n with
  | zero => intro w h1 h2; omega
  | succ n ih =>
    intro u h1 h2
    refine pk_le 31 u (fun z => ?_) (fun z => ?_)
    · have e : u = 31 := by omega
      subst e
      exact hp
    · rw [nI_clamp (n := u) (by omega), zq_add (P := fun u => R u u) (by omega) (hR u u z z)]
      refine And.intro (vp_in_nI z (by decide)) ?_
      intro a ea y ey
      rw [nI_1] at ey
      subst ea ey
      exact ih (u + 1) (by omega) (by omega)
theorem zx_pairs_8 {post : Int32 → SX → Prop} (hR : ∀ u v, u < 31 → v < 31 → (bt (ar u) v = true ↔ R u v)) (hp : post (nI (zq_s (fun u => zq_c (R u) 31) 31)) (fh, fm, fc, fp, uf, ul, ue, fr, aw, af, al, ae, ax, ay, ao, au, ak, ar, aq, an)) :
    ∀ n u : Nat, u ≤ 31 → 31 < u + n → wX_pairs_8 post fh fm fc fp uf ul ue fr aw af al ae ax ay ao au ak ar aq an n (nI (zq_s (fun u => zq_c (R u) 31) u)) (nI u) := by
  intro n
  induction n with
  | zero => intro w h1 h2; omega
  | succ n ih =>
    intro u h1 h2
    refine pk_le 31 u (fun z => ?_) (fun z => ?_)
    · have e : u = 31 := by omega
      subst e
      exact hp
    · rw [nI_clamp (n := u) (by omega)]
      refine And.intro (vp_in_nI z (by decide)) (zx_sizeOf (P := R u) (fun v hv => hR u v z hv) ?_)
      intro a ea y ey
      rw [nI_1] at ey
      rw [nI_add] at ea
      subst ea ey
      exact ih (u + 1) (by omega) (by omega)
theorem zx_having_8 {post : Int32 → SX → Prop} {t : Nat} (ht : t < 32) (hR : ∀ u v, u < 31 → v < 31 → (bt (ar u) v = true ↔ R u v)) (hp : post (nI (zq_c (fun u => t ≤ zq_c (R u) 31) 31)) (fh, fm, fc, fp, uf, ul, ue, fr, aw, af, al, ae, ax, ay, ao, au, ak, ar, aq, an)) :
    ∀ n u : Nat, u ≤ 31 → 31 < u + n → wX_having_8 post (nI t) fh fm fc fp uf ul ue fr aw af al ae ax ay ao au ak ar aq an n (nI (zq_c (fun u => t ≤ zq_c (R u) 31) u)) (nI u) := by
  intro n
  induction n with
  | zero => intro w h1 h2; omega
  | succ n ih =>
    intro u h1 h2
    have hle := zq_cle (R u) 31
    refine pk_le 31 u (fun z => ?_) (fun z => ?_)
    · have e : u = 31 := by omega
      subst e
      exact hp
    · rw [nI_clamp (n := u) (by omega)]
      refine And.intro (vp_in_nI z (by decide)) (zx_sizeOf (P := R u) (fun v hv => hR u v z hv) ?_)
      refine pk_lt (zq_c (R u) 31) t (fun w => ?_) (fun w => ?_)
      · intro y ey
        rw [nI_1] at ey
        subst ey
        rw [← zq_c0 (P := fun u => t ≤ zq_c (R u) 31) (n := u) (Nat.not_le.mpr w)]
        exact ih (u + 1) (by omega) (by omega)
      · intro a ea y ey
        rw [nI_1] at ey ea
        rw [← zq_c1 (P := fun u => t ≤ zq_c (R u) 31) (n := u) w] at ea
        subst ey ea
        exact ih (u + 1) (by omega) (by omega)
theorem zx_twoSteps_19 {post : Int32 → SX → Prop} {J : Int32 → Int32 → Prop} {s u : Nat} (hu : u < 31) (hR : ∀ u v, u < 31 → v < 31 → (bt (ar u) v = true ↔ R u v)) (hJ : J (nI (s + zq_c (zq_L R u) 31)) (nI (u + 1))) :
    ∀ (n v : Nat) (x : Int32), v ≤ 31 → 31 < v + n → (∀ w, w < 31 → (bt x w = true ↔ zq_Li R v u w)) → wX_twoSteps_19 post J (nI s) (nI u) fh fm fc fp uf ul ue fr aw af al ae ax ay ao au ak ar aq an n x (nI v) := by
  intro n
  induction n with
  | zero => intro v x h1 h2; omega
  | succ n ih =>
    intro v x h1 h2 hx
    refine pk_le 31 v (fun z => ?_) (fun z => ?_)
    · have e : v = 31 := by omega
      subst e
      refine zx_sizeOf (P := zq_L R u) hx ?_
      intro a ea y ey
      rw [nI_1] at ey
      rw [nI_add] at ea
      subst ea ey
      exact hJ
    · have hb : (((ar u) >>> (nI v &&& 31)) &&& 1) = 1 ↔ R u v := (zb_bitI (by omega)).trans (hR u v hu z)
      rw [nI_clamp (n := u) (by omega), nI_clamp (n := v) (by omega), hb]
      refine And.intro (vp_in_nI hu (by decide)) (br_c (fun t => And.intro (vp_in_nI z (by decide)) ?_) (fun t => ?_))
      · intro x' ex y ey
        rw [nI_1] at ey
        subst ey
        refine ih (v + 1) x' (by omega) (by omega) ?_
        intro w hw
        rw [ex, zb_orT, hx w hw, hR v w z hw]
        constructor
        · intro c
          rcases c with ⟨v', hv', c⟩ | c
          · exact ⟨v', by omega, c⟩
          · exact ⟨v, by omega, t, c⟩
        · intro ⟨v', hv', c1, c2⟩
          by_cases e : v' = v
          · rw [e] at c2
            exact Or.inr c2
          · exact Or.inl ⟨v', by omega, c1, c2⟩
      · intro y ey
        rw [nI_1] at ey
        subst ey
        refine ih (v + 1) x (by omega) (by omega) ?_
        intro w hw
        rw [hx w hw]
        constructor
        · intro ⟨v', hv', c⟩
          exact ⟨v', by omega, c⟩
        · intro ⟨v', hv', c1, c2⟩
          by_cases e : v' = v
          · rw [e] at c1
            exact absurd c1 t
          · exact ⟨v', by omega, c1, c2⟩
theorem zx_twoSteps_8 {post : Int32 → SX → Prop} (hR : ∀ u v, u < 31 → v < 31 → (bt (ar u) v = true ↔ R u v)) (hp : post (nI (zq_s (fun u => zq_c (zq_L R u) 31) 31)) (fh, fm, fc, fp, uf, ul, ue, fr, aw, af, al, ae, ax, ay, ao, au, ak, ar, aq, an)) :
    ∀ n u : Nat, u ≤ 31 → 31 < u + n → wX_twoSteps_8 post fh fm fc fp uf ul ue fr aw af al ae ax ay ao au ak ar aq an n (nI (zq_s (fun u => zq_c (zq_L R u) 31) u)) (nI u) := by
  intro n
  induction n with
  | zero => intro w h1 h2; omega
  | succ n ih =>
    intro u h1 h2
    refine pk_le 31 u (fun z => ?_) (fun z => ?_)
    · have e : u = 31 := by omega
      subst e
      exact hp
    · refine Exists.intro 32 (zx_twoSteps_19 z hR (ih (u + 1) (by omega) (by omega)) 32 0 0 (by omega) (by omega) ?_)
      intro w hw
      exact ⟨fun c => absurd c zb_0T, fun ⟨v, hv, _⟩ => absurd hv (Nat.not_lt_zero _)⟩
end
section
variable {yd ys yp : Int32} {sa : Nat → Int32}
variable {R : Nat → Nat → Prop}
theorem zy_has6 {post : Int32 → Prop} {u v : Nat} {p1 p2 : Int32} (hR : ∀ u v, u < 31 → v < 31 → (bt (sa (186 + u)) v = true ↔ R u v)) (e1 : p1 = nI u) (e2 : p2 = nI v) (hu : u < 31) (hv : v < 31) (h1 : R u v → post 1) (h0 : ¬ R u v → post 0) : wpY_has post (yd, ys, yp, sa) 6 p1 p2 :=
  zy_has (r := 6) rfl e1 e2 (by omega) hu hv (fun t => h1 ((hR u v hu hv).mp t)) (fun t => h0 (fun c => t ((hR u v hu hv).mpr c)))
theorem zy_imagesOf_4 {post : Int32 → Prop} {u : Nat} (hu : u < 31) (hR : ∀ u v, u < 31 → v < 31 → (bt (sa (186 + u)) v = true ↔ R u v)) (hp : post (nI (zq_c (R u) 31))) :
    ∀ n v : Nat, v ≤ 31 → 31 < v + n → wY_imagesOf_4 post (nI u) yd ys yp sa n (nI (zq_c (R u) v)) (nI v) := by
  intro n
  induction n with
  | zero => intro w h1 h2; omega
  | succ n ih =>
    intro v h1 h2
    refine pk_le 31 v (fun z => ?_) (fun z => ?_)
    · have e : v = 31 := by omega
      subst e
      exact hp
    · refine zy_has6 hR rfl rfl hu z (fun w => br_f (by decide) ?_) (fun w => br_t rfl ?_)
      · intro a ea y ey
        rw [nI_1] at ey ea
        rw [← zq_c1 w] at ea
        subst ey ea
        exact ih (v + 1) (by omega) (by omega)
      · intro y ey
        rw [nI_1] at ey
        subst ey
        rw [← zq_c0 w]
        exact ih (v + 1) (by omega) (by omega)
theorem zy_imagesOf {post : Int32 → Prop} {u : Nat} {p0 : Int32} (e0 : p0 = nI u) (hu : u < 31) (hR : ∀ u v, u < 31 → v < 31 → (bt (sa (186 + u)) v = true ↔ R u v)) (hp : post (nI (zq_c (R u) 31))) : wpY_imagesOf post (yd, ys, yp, sa) p0 := by
  subst e0
  exact Exists.intro 32 (zy_imagesOf_4 hu hR hp 32 0 (by omega) (by omega))
theorem zy_sources_16 {post : Int32 → Prop} {v : Nat} {p0 p1 : Int32} (e0 : (((1 : Int32) <<< (p0 &&& 31)) - 1) + p1 = nI v) (hv : v < 31) (hR : ∀ u v, u < 31 → v < 31 → (bt (sa (186 + u)) v = true ↔ R u v)) (hp : post (nI (zq_c (fun u => R u v) 31))) :
    ∀ n u : Nat, u ≤ 31 → 31 < u + n → wY_sources_16 post p0 p1 yd ys yp sa n (nI (zq_c (fun u => R u v) u)) (nI u) := by
  intro n
  induction n with
  | zero => intro w h1 h2; omega
  | succ n ih =>
    intro u h1 h2
    refine pk_le 31 u (fun z => ?_) (fun z => ?_)
    · have e : u = 31 := by omega
      subst e
      exact hp
    · refine zy_has6 hR rfl e0 z hv (fun w => br_f (by decide) ?_) (fun w => br_t rfl ?_)
      · intro a ea y ey
        rw [nI_1] at ey ea
        rw [← zq_c1 (P := fun u => R u v) w] at ea
        subst ey ea
        exact ih (u + 1) (by omega) (by omega)
      · intro y ey
        rw [nI_1] at ey
        subst ey
        rw [← zq_c0 (P := fun u => R u v) w]
        exact ih (u + 1) (by omega) (by omega)
theorem zy_fixed_4 {post : Int32 → Prop} (hR : ∀ u v, u < 31 → v < 31 → (bt (sa (186 + u)) v = true ↔ R u v)) (hp : post (nI (zq_c (fun u => R u u) 31))) :
    ∀ n u : Nat, u ≤ 31 → 31 < u + n → wY_fixed_4 post yd ys yp sa n (nI (zq_c (fun u => R u u) u)) (nI u) := by
  intro n
  induction n with
  | zero => intro w h1 h2; omega
  | succ n ih =>
    intro u h1 h2
    refine pk_le 31 u (fun z => ?_) (fun z => ?_)
    · have e : u = 31 := by omega
      subst e
      exact hp
    · refine zy_has6 hR rfl rfl z z (fun w => br_f (by decide) ?_) (fun w => br_t rfl ?_)
      · intro a ea y ey
        rw [nI_1] at ey ea
        rw [← zq_c1 (P := fun u => R u u) w] at ea
        subst ey ea
        exact ih (u + 1) (by omega) (by omega)
      · intro y ey
        rw [nI_1] at ey
        subst ey
        rw [← zq_c0 (P := fun u => R u u) w]
        exact ih (u + 1) (by omega) (by omega)
theorem zy_pairs_4 {post : Int32 → Prop} (hR : ∀ u v, u < 31 → v < 31 → (bt (sa (186 + u)) v = true ↔ R u v)) (hp : post (nI (zq_s (fun u => zq_c (R u) 31) 31))) :
    ∀ n u : Nat, u ≤ 31 → 31 < u + n → wY_pairs_4 post yd ys yp sa n (nI (zq_s (fun u => zq_c (R u) 31) u)) (nI u) := by
  intro n
  induction n with
  | zero => intro w h1 h2; omega
  | succ n ih =>
    intro u h1 h2
    refine pk_le 31 u (fun z => ?_) (fun z => ?_)
    · have e : u = 31 := by omega
      subst e
      exact hp
    · refine zy_imagesOf rfl z hR ?_
      intro a ea y ey
      rw [nI_1] at ey
      rw [nI_add] at ea
      subst ea ey
      exact ih (u + 1) (by omega) (by omega)
theorem zy_domain_4 {post : Int32 → Prop} (hR : ∀ u v, u < 31 → v < 31 → (bt (sa (186 + u)) v = true ↔ R u v)) (hp : post (nI (zq_c (fun u => 1 ≤ zq_c (R u) 31) 31))) :
    ∀ n u : Nat, u ≤ 31 → 31 < u + n → wY_domain_4 post yd ys yp sa n (nI (zq_c (fun u => 1 ≤ zq_c (R u) 31) u)) (nI u) := by
  intro n
  induction n with
  | zero => intro w h1 h2; omega
  | succ n ih =>
    intro u h1 h2
    have hle := zq_cle (R u) 31
    refine pk_le 31 u (fun z => ?_) (fun z => ?_)
    · have e : u = 31 := by omega
      subst e
      exact hp
    · refine zy_imagesOf rfl z hR ?_
      refine pk_le (zq_c (R u) 31) 0 (fun w => ?_) (fun w => ?_)
      · intro y ey
        rw [nI_1] at ey
        subst ey
        rw [← zq_c0 (P := fun u => 1 ≤ zq_c (R u) 31) (n := u) (by omega)]
        exact ih (u + 1) (by omega) (by omega)
      · intro a ea y ey
        rw [nI_1] at ey ea
        rw [← zq_c1 (P := fun u => 1 ≤ zq_c (R u) 31) (n := u) w] at ea
        subst ey ea
        exact ih (u + 1) (by omega) (by omega)
theorem zy_manyValued_4 {post : Int32 → Prop} (hR : ∀ u v, u < 31 → v < 31 → (bt (sa (186 + u)) v = true ↔ R u v)) (hp : post (nI (zq_c (fun u => 2 ≤ zq_c (R u) 31) 31))) :
    ∀ n u : Nat, u ≤ 31 → 31 < u + n → wY_manyValued_4 post yd ys yp sa n (nI (zq_c (fun u => 2 ≤ zq_c (R u) 31) u)) (nI u) := by
  intro n
  induction n with
  | zero => intro w h1 h2; omega
  | succ n ih =>
    intro u h1 h2
    have hle := zq_cle (R u) 31
    refine pk_le 31 u (fun z => ?_) (fun z => ?_)
    · have e : u = 31 := by omega
      subst e
      exact hp
    · refine zy_imagesOf rfl z hR ?_
      refine pk_le (zq_c (R u) 31) 1 (fun w => ?_) (fun w => ?_)
      · intro y ey
        rw [nI_1] at ey
        subst ey
        rw [← zq_c0 (P := fun u => 2 ≤ zq_c (R u) 31) (n := u) (by omega)]
        exact ih (u + 1) (by omega) (by omega)
      · intro a ea y ey
        rw [nI_1] at ey ea
        rw [← zq_c1 (P := fun u => 2 ≤ zq_c (R u) 31) (n := u) w] at ea
        subst ey ea
        exact ih (u + 1) (by omega) (by omega)
theorem zy_leads_2 {post : Int32 → Prop} {u w : Nat} (hu : u < 31) (hw : w < 31) (hR : ∀ u v, u < 31 → v < 31 → (bt (sa (186 + u)) v = true ↔ R u v)) (h1 : zq_L R u w → post 1) (h0 : ¬ zq_L R u w → post 0) :
    ∀ n v : Nat, v ≤ 31 → 31 < v + n → ¬ zq_Li R v u w → wY_leads_2 post (nI u) (nI w) yd ys yp sa n (nI v) := by
  intro n
  induction n with
  | zero => intro v g1 g2; omega
  | succ n ih =>
    intro v g1 g2 hn
    refine pk_le 31 v (fun z => ?_) (fun z => ?_)
    · have e : v = 31 := by omega
      subst e
      exact h0 hn
    · have nxt : ¬ (R u v ∧ R v w) → ∀ y : Int32, y = nI v + 1 → wY_leads_2 post (nI u) (nI w) yd ys yp sa n y := by
        intro c y ey
        rw [nI_1] at ey
        subst ey
        refine ih (v + 1) (by omega) (by omega) ?_
        intro ⟨v', hv', d⟩
        by_cases e : v' = v
        · rw [e] at d
          exact c d
        · exact hn ⟨v', by omega, d⟩
      refine zy_has6 hR rfl rfl hu z (fun t1 => br_f (by decide) ?_) (fun t1 => br_t rfl (nxt (fun c => t1 c.1)))
      exact zy_has6 hR rfl rfl z hw (fun t2 => br_f (by decide) (h1 ⟨v, z, t1, t2⟩)) (fun t2 => br_t rfl (nxt (fun c => t2 c.2)))
theorem zy_leads {post : Int32 → Prop} {u w : Nat} (hu : u < 31) (hw : w < 31) (hR : ∀ u v, u < 31 → v < 31 → (bt (sa (186 + u)) v = true ↔ R u v)) (h1 : zq_L R u w → post 1) (h0 : ¬ zq_L R u w → post 0) : wpY_leads post (yd, ys, yp, sa) (nI u) (nI w) :=
  Exists.intro 32 (zy_leads_2 hu hw hR h1 h0 32 0 (by omega) (by omega) (fun ⟨v, hv, _⟩ => absurd hv (Nat.not_lt_zero _)))
theorem zy_twoSteps_12 {post : Int32 → Prop} {J : Int32 → Int32 → Prop} {s u : Nat} (hu : u < 31) (hR : ∀ u v, u < 31 → v < 31 → (bt (sa (186 + u)) v = true ↔ R u v)) (hJ : J (nI (s + zq_c (zq_L R u) 31)) (nI (u + 1))) :
    ∀ n w : Nat, w ≤ 31 → 31 < w + n → wY_twoSteps_12 post J (nI u) yd ys yp sa n (nI (s + zq_c (zq_L R u) w)) (nI w) := by
  intro n
  induction n with
  | zero => intro w h1 h2; omega
  | succ n ih =>
    intro w h1 h2
    refine pk_le 31 w (fun z => ?_) (fun z => ?_)
    · have e : w = 31 := by omega
      subst e
      intro y ey
      rw [nI_1] at ey
      subst ey
      exact hJ
    · refine zy_leads hu z hR (fun t => br_f (by decide) ?_) (fun t => br_t rfl ?_)
      · intro a ea y ey
        rw [nI_1] at ey ea
        have e2 : s + zq_c (zq_L R u) w + 1 = s + zq_c (zq_L R u) (w + 1) := by rw [zq_c1 t, Nat.add_assoc]
        rw [e2] at ea
        subst ey ea
        exact ih (w + 1) (by omega) (by omega)
      · intro y ey
        rw [nI_1] at ey
        subst ey
        rw [← zq_c0 t]
        exact ih (w + 1) (by omega) (by omega)
theorem zy_twoSteps_4 {post : Int32 → Prop} (hR : ∀ u v, u < 31 → v < 31 → (bt (sa (186 + u)) v = true ↔ R u v)) (hp : post (nI (zq_s (fun u => zq_c (zq_L R u) 31) 31))) :
    ∀ n u : Nat, u ≤ 31 → 31 < u + n → wY_twoSteps_4 post yd ys yp sa n (nI (zq_s (fun u => zq_c (zq_L R u) 31) u)) (nI u) := by
  intro n
  induction n with
  | zero => intro w h1 h2; omega
  | succ n ih =>
    intro u h1 h2
    refine pk_le 31 u (fun z => ?_) (fun z => ?_)
    · have e : u = 31 := by omega
      subst e
      exact hp
    · exact Exists.intro 32 (zy_twoSteps_12 z hR (ih (u + 1) (by omega) (by omega)) 32 0 (by omega) (by omega))
end
end
section
/-! the owed statements of the questions -/
theorem zq_p2 : ∀ l, l < 5 → (1 : Int32) <<< (nI l &&& 31) = nI (2 ^ l) := by decide +kernel
theorem zq_p2b : ∀ l, l < 5 → (1 ≤ 2 ^ l ∧ 2 ^ l ≤ 16) := by decide
theorem zq_img : ∀ v, v < 31 → (((16 * nI (zw_l v)) + nI v) + 1) - ((1 : Int32) <<< (nI (zw_l v) &&& 31)) = ((16 * nI (zw_l v)) + nI v) - (((1 : Int32) <<< (nI (zw_l v) &&& 31)) - 1) := by decide +kernel
section
variable {fh fm fc fp uf ul ue fr : Int32} {aw af al ae ax ay ao au ak ar aq an : Nat → Int32}
variable {yd ys yp : Int32} {sa : Nat → Int32}
variable {R : Nat → Nat → Prop}
theorem zq_word (u : SX) (v : SY) (a b : Int32) :
    (∃ w : Nat, w < 31 ∧ (((1 : Int32) <<< (a &&& 31)) - 1) + b = nI w ∧ (∀ post : Int32 → Prop, post 0 → wpX_bad post u a b) ∧ (∀ post : Int32 → Prop, post 1 → wpY_isWord post v a b)) ∨
    ((∀ post : Int32 → Prop, post 1 → wpX_bad post u a b) ∧ (∀ post : Int32 → Prop, post 0 → wpY_isWord post v a b)) := by
  obtain ⟨fh, fm, fc, fp, uf, ul, ue, fr, aw, af, al, ae, ax, ay, ao, au, ak, ar, aq, an⟩ := u
  obtain ⟨yd, ys, yp, sa⟩ := v
  by_cases a1 : a < 0
  · exact Or.inr ⟨fun post h => br_t a1 h, fun post h => br_t a1 h⟩
  by_cases a2 : 4 < a
  · exact Or.inr ⟨fun post h => br_f a1 (br_t a2 h), fun post h => br_f a1 (br_t a2 h)⟩
  by_cases a3 : b < 0
  · have a3' : ¬ 0 ≤ b := Int32.not_le.mpr a3
    exact Or.inr ⟨fun post h => br_f a1 (br_f a2 (br_f a3' h)), fun post h => br_f a1 (br_f a2 (br_t a3 h))⟩
  have a3' : 0 ≤ b := Int32.not_lt.mp a3
  by_cases a4 : b < (1 : Int32) <<< (a &&& 31)
  · have a4' : ¬ (1 : Int32) <<< (a &&& 31) ≤ b := Int32.not_le.mpr a4
    refine Or.inl ?_
    obtain ⟨l, hl, rfl⟩ := nI_of2 (M := 4) (n := 4) (by decide) a1 (Int32.not_lt.mp a2)
    obtain ⟨j, hj, rfl⟩ := nI_of a3
    have e := zq_p2 l (by omega)
    have e2 := zq_p2b l (by omega)
    have a5 := a4
    rw [e, nI_ltI hj (by omega)] at a5
    refine ⟨2 ^ l - 1 + j, ?_, ?_, fun post h => br_f a1 (br_f a2 (br_t a3' (br_t a4 h))), fun post h => br_f a1 (br_f a2 (br_f a3 (br_f a4' h)))⟩
    · omega
    · have e3 : nI (2 ^ l) - 1 = nI (2 ^ l - 1) := pk_sub (b := 1) e2.1
      rw [e, e3, nI_add]
  · have a4' : (1 : Int32) <<< (a &&& 31) ≤ b := Int32.not_lt.mp a4
    exact Or.inr ⟨fun post h => br_f a1 (br_f a2 (br_t a3' (br_f a4 h))), fun post h => br_f a1 (br_f a2 (br_f a3 (br_t a4' h)))⟩
theorem zx_wordOf {post : Int32 → Prop} {w : Nat} {p0 p1 : Int32} (e : (((1 : Int32) <<< (p0 &&& 31)) - 1) + p1 = nI w) (h : post (nI w)) : wpX_wordOf post (fh, fm, fc, fp, uf, ul, ue, fr, aw, af, al, ae, ax, ay, ao, au, ak, ar, aq, an) p0 p1 := by
  unfold wpX_wordOf
  dsimp only
  rw [e]
  exact h
theorem zq_prep {post : SX → Prop} (hus : zr_use uf ul ue au ak sa) (hro : zr_row fr ar sa) (hln : zr_len an)
    (hp : ∀ (f : Int32) (r q : Nat → Int32), zr_row f r sa → (∀ u v, u < 31 → v < 31 → (bt (r u) v = true ↔ bt (sa (186 + u)) v = true)) → post (fh, fm, fc, fp, uf, ul, ue, f, aw, af, al, ae, ax, ay, ao, au, ak, r, q, an)) : wpX_prepare post (fh, fm, fc, fp, uf, ul, ue, fr, aw, af, al, ae, ax, ay, ao, au, ak, ar, aq, an) := by
  obtain ⟨b, e, tx, ty, hU, hE, hL, hA⟩ := hus
  refine zx_prepare (S := fun u => zx_S uf au tx ty u) (fun u hu => zx_S_Hs hU hu) hln ?_ ?_
  · intro r q hr
    have key : ∀ u v, u < 31 → v < 31 → (bt (r u) v = true ↔ bt (sa (186 + u)) v = true) := by
      intro u v hu hv
      rw [hr u hu v, hA u v hu hv, ← zx_S_Im hU hL hE hv]
      exact ⟨fun t => t.2, fun t => ⟨hv, t⟩⟩
    exact hp 1 r q (fun _ => key) key
  · intro h0
    exact hp fr ar aq hro (hro h0)
theorem zq_image {w K : Nat} {p0 p1 : Int32} (e0 : (((1 : Int32) <<< (p0 &&& 31)) - 1) + p1 = nI w) (hw : w < 31) (hK : K < 2 ^ 31) (hln : zr_len an)
    (hX : ∀ u v, u < 31 → v < 31 → (bt (ar u) v = true ↔ R u v)) (hY : ∀ u v, u < 31 → v < 31 → (bt (sa (186 + u)) v = true ↔ R u v)) :
    ∀ d v c : Nat, v + d = 31 → c ≤ K → ∃ r : Int32, (∀ post : Int32 → SX → Prop, post r (fh, fm, fc, fp, uf, ul, ue, fr, aw, af, al, ae, ax, ay, ao, au, ak, ar, aq, an) → wX_image_29 post (nI w) fh fm fc fp uf ul ue fr aw af al ae ax ay ao au ak ar aq an (d + 1) (nI (K - c)) (nI v)) ∧
      (∀ post : Int32 → Prop, post r → wY_image_17 post p0 p1 (nI K) yd ys yp sa (d + 1) (nI c) (nI v)) := by
  intro d
  induction d with
  | zero =>
    intro v c hv hc
    have e : v = 31 := by omega
    subst e
    exact ⟨-4, fun post h => br_t (by decide) h, fun post h => br_t (by decide) h⟩
  | succ d ih =>
    intro v c hv hc
    have hv31 : v < 31 := by omega
    have n31 : ¬ (31 : Int32) ≤ nI v := nI_ge (b := 31) hv31 (by decide)
    have npos : ¬ nI (K - c) < 0 := nI_pos (by omega)
    have win : vp_in (nI w) 31 := vp_in_nI hw (by decide)
    have vin : vp_in (nI v) 31 := vp_in_nI hv31 (by decide)
    have hb : (((ar (nI w).toNatClampNeg) >>> (nI v &&& 31)) &&& 1) = 1 ↔ R w v := by
      rw [nI_clamp (n := w) (by omega)]
      exact (zb_bitI (by omega)).trans (hX w v hw hv31)
    by_cases t : R w v
    · by_cases z : c = K
      · refine ⟨((16 * nI (zw_l v)) + nI v) - (((1 : Int32) <<< (nI (zw_l v) &&& 31)) - 1), fun post h => ?_, fun post h => ?_⟩
        · refine br_f n31 (br_f npos (And.intro win (br_t (hb.mpr t) (br_t ?_ (And.intro vin (And.intro vin ?_))))))
          · rw [z, Nat.sub_self]
            rfl
          · rw [nI_clamp (n := v) (by omega), hln v hv31, zq_img v hv31]
            exact h
        · refine br_f n31 (zy_has6 hY e0 rfl hw hv31 (fun _ => br_f (by decide) (br_t (congrArg nI z) ?_)) (fun c => absurd t c))
          exact zy_lenOf rfl hv31 h
      · obtain ⟨r, h1, h2⟩ := ih (v + 1) (c + 1) (by omega) (by omega)
        refine ⟨r, fun post h => ?_, fun post h => ?_⟩
        · refine br_f n31 (br_f npos (And.intro win (br_t (hb.mpr t) (br_f (nI_ne0 (by omega) (by omega)) ?_))))
          intro x ex y ey
          have e1 : K - c = (K - (c + 1)) + 1 := by omega
          rw [e1, pk_m1] at ex
          rw [nI_1] at ey
          subst ex ey
          exact h1 post h
        · refine br_f n31 (zy_has6 hY e0 rfl hw hv31 (fun _ => br_f (by decide) (br_f (zr_ne z (by omega) hK) ?_)) (fun c => absurd t c))
          intro x ex y ey
          rw [nI_1] at ex ey
          subst ex ey
          exact h2 post h
    · obtain ⟨r, h1, h2⟩ := ih (v + 1) c (by omega) hc
      refine ⟨r, fun post h => ?_, fun post h => ?_⟩
      · refine br_f n31 (br_f npos (And.intro win (br_f (fun s => t (hb.mp s)) ?_)))
        intro y ey
        rw [nI_1] at ey
        subst ey
        exact h1 post h
      · refine br_f n31 (zy_has6 hY e0 rfl hw hv31 (fun c => absurd c t) (fun _ => br_t rfl ?_))
        intro y ey
        rw [nI_1] at ey
        subst ey
        exact h2 post h
theorem zq_image_neg {w : Nat} {p0 p1 p2 : Int32} (e0 : (((1 : Int32) <<< (p0 &&& 31)) - 1) + p1 = nI w) (hw : w < 31) (hK : p2 < 0)
    (hY : ∀ u v, u < 31 → v < 31 → (bt (sa (186 + u)) v = true ↔ R u v)) {post : Int32 → Prop} (hp : post (-4)) :
    ∀ d v c : Nat, v + d = 31 → c ≤ v → wY_image_17 post p0 p1 p2 yd ys yp sa (d + 1) (nI c) (nI v) := by
  intro d
  induction d with
  | zero =>
    intro v c hv hc
    have e : v = 31 := by omega
    subst e
    exact br_t (by decide) hp
  | succ d ih =>
    intro v c hv hc
    have hv31 : v < 31 := by omega
    have n31 : ¬ (31 : Int32) ≤ nI v := nI_ge (b := 31) hv31 (by decide)
    have hne : ¬ nI c = p2 := by
      intro z
      rw [← z] at hK
      exact nI_pos (by omega) hK
    refine br_f n31 (zy_has6 hY e0 rfl hw hv31 (fun _ => br_f (by decide) (br_f hne ?_)) (fun _ => br_t rfl ?_))
    · intro x ex y ey
      rw [nI_1] at ex ey
      subst ex ey
      exact ih (v + 1) (c + 1) (by omega) (by omega)
    · intro y ey
      rw [nI_1] at ey
      subst ey
      exact ih (v + 1) c (by omega) (by omega)
end
end
section
/-! the owed statements of the questions (printed by a small program) -/
theorem i_vc_related {k : Nat} {u : SX} {v : SY} (I : i_Rel k u v) (hk : k + 5 ≤ 2560) (v1 : Int32) (v2 : Int32) (v3 : Int32) (v4 : Int32) : wpX_related (fun r u' => wpY_related (fun r' => r' = r ∧ i_Rel (k + 5) u' v) v v1 v2 v3 v4) u v1 v2 v3 v4 := by
  refine zr_el (P := fun u v => wpX_related (fun r u' => wpY_related (fun r' => r' = r ∧ i_Rel (k + 5) u' v) v v1 v2 v3 v4) u v1 v2 v3 v4) ?_ I
  intro fh fm fc fp uf ul ue fr aw af al ae ax ay ao au ak ar aq an yd ys yp sa hst hus hro hln
  have J : i_Rel (k + 5) (fh, fm, fc, fp, uf, ul, ue, fr, aw, af, al, ae, ax, ay, ao, au, ak, ar, aq, an) (yd, ys, yp, sa) := And.intro hst (And.intro hus (And.intro hro hln))
  unfold wpX_related
  dsimp only
  rcases zq_word (fh, fm, fc, fp, uf, ul, ue, fr, aw, af, al, ae, ax, ay, ao, au, ak, ar, aq, an) (yd, ys, yp, sa) v1 v2 with ⟨w, hw, ew, hX, hY⟩ | ⟨hX, hY⟩
  · refine hX _ (br_t rfl ?_)
    rcases zq_word (fh, fm, fc, fp, uf, ul, ue, fr, aw, af, al, ae, ax, ay, ao, au, ak, ar, aq, an) (yd, ys, yp, sa) v3 v4 with ⟨x, hx, ex, hX2, hY2⟩ | ⟨hX2, hY2⟩
    · refine hX2 _ (br_t rfl (zq_prep hus hro hln ?_))
      intro f r q hr hrr
      have J2 : i_Rel (k + 5) (fh, fm, fc, fp, uf, ul, ue, f, aw, af, al, ae, ax, ay, ao, au, ak, r, q, an) (yd, ys, yp, sa) := And.intro hst (And.intro hus (And.intro hr hln))
      have hY0 : ∀ u v, u < 31 → v < 31 → (bt (sa (186 + u)) v = true ↔ bt (sa (186 + u)) v = true) := fun _ _ _ _ => Iff.rfl
      refine zx_wordOf ew (zx_wordOf ex ?_)
      have hb : (((r (nI w).toNatClampNeg) >>> (nI x &&& 31)) &&& 1) = 1 ↔ bt (sa (186 + w)) x = true := by
        rw [nI_clamp (n := w) (by omega)]
        exact (zb_bitI (by omega)).trans (hrr w x hw hx)
      refine And.intro (vp_in_nI hw (by decide)) (br_c (fun t => ?_) (fun t => ?_))
      · unfold wpY_related
        dsimp only
        refine hY _ (br_f (by decide) ?_)
        refine hY2 _ (br_f (by decide) ?_)
        exact zy_has6 hY0 ew ex hw hx (fun _ => br_f (by decide) ⟨rfl, J2⟩) (fun c => absurd (hb.mp t) c)
      · unfold wpY_related
        dsimp only
        refine hY _ (br_f (by decide) ?_)
        refine hY2 _ (br_f (by decide) ?_)
        exact zy_has6 hY0 ew ex hw hx (fun c => absurd (hb.mpr c) t) (fun _ => br_t rfl ⟨rfl, J2⟩)
    · refine hX2 _ (br_f (by decide) ?_)
      unfold wpY_related
      dsimp only
      refine hY _ (br_f (by decide) ?_)
      exact hY2 _ (br_t rfl ⟨rfl, J⟩)
  · refine hX _ (br_f (by decide) ?_)
    unfold wpY_related
    dsimp only
    exact hY _ (br_t rfl ⟨rfl, J⟩)
theorem i_vc_images {k : Nat} {u : SX} {v : SY} (I : i_Rel k u v) (hk : k + 5 ≤ 2560) (v1 : Int32) (v2 : Int32) : wpX_images (fun r u' => wpY_images (fun r' => r' = r ∧ i_Rel (k + 5) u' v) v v1 v2) u v1 v2 := by
  refine zr_el (P := fun u v => wpX_images (fun r u' => wpY_images (fun r' => r' = r ∧ i_Rel (k + 5) u' v) v v1 v2) u v1 v2) ?_ I
  intro fh fm fc fp uf ul ue fr aw af al ae ax ay ao au ak ar aq an yd ys yp sa hst hus hro hln
  have J : i_Rel (k + 5) (fh, fm, fc, fp, uf, ul, ue, fr, aw, af, al, ae, ax, ay, ao, au, ak, ar, aq, an) (yd, ys, yp, sa) := And.intro hst (And.intro hus (And.intro hro hln))
  unfold wpX_images
  dsimp only
  rcases zq_word (fh, fm, fc, fp, uf, ul, ue, fr, aw, af, al, ae, ax, ay, ao, au, ak, ar, aq, an) (yd, ys, yp, sa) v1 v2 with ⟨w, hw, ew, hX, hY⟩ | ⟨hX, hY⟩
  · refine hX _ (br_t rfl (zq_prep hus hro hln ?_))
    intro f r q hr hrr
    have J2 : i_Rel (k + 5) (fh, fm, fc, fp, uf, ul, ue, f, aw, af, al, ae, ax, ay, ao, au, ak, r, q, an) (yd, ys, yp, sa) := And.intro hst (And.intro hus (And.intro hr hln))
    have hY0 : ∀ u v, u < 31 → v < 31 → (bt (sa (186 + u)) v = true ↔ bt (sa (186 + u)) v = true) := fun _ _ _ _ => Iff.rfl
    refine zx_wordOf ew ?_
    refine And.intro (vp_in_nI hw (by decide)) ?_
    refine zx_sizeOf (P := fun v => bt (sa (186 + w)) v = true) ?_ ?_
    · intro v hv
      rw [nI_clamp (n := w) (by omega)]
      exact hrr w v hw hv
    · unfold wpY_images
      dsimp only
      refine hY _ (br_f (by decide) ?_)
      exact zy_imagesOf ew hw hY0 ⟨rfl, J2⟩
  · refine hX _ (br_f (by decide) ?_)
    unfold wpY_images
    dsimp only
    exact hY _ (br_t rfl ⟨rfl, J⟩)
theorem i_vc_image {k : Nat} {u : SX} {v : SY} (I : i_Rel k u v) (hk : k + 5 ≤ 2560) (v1 : Int32) (v2 : Int32) (v3 : Int32) : wpX_image (fun r u' => wpY_image (fun r' => r' = r ∧ i_Rel (k + 5) u' v) v v1 v2 v3) u v1 v2 v3 := by
  refine zr_el (P := fun u v => wpX_image (fun r u' => wpY_image (fun r' => r' = r ∧ i_Rel (k + 5) u' v) v v1 v2 v3) u v1 v2 v3) ?_ I
  intro fh fm fc fp uf ul ue fr aw af al ae ax ay ao au ak ar aq an yd ys yp sa hst hus hro hln
  have J : i_Rel (k + 5) (fh, fm, fc, fp, uf, ul, ue, fr, aw, af, al, ae, ax, ay, ao, au, ak, ar, aq, an) (yd, ys, yp, sa) := And.intro hst (And.intro hus (And.intro hro hln))
  unfold wpX_image
  dsimp only
  rcases zq_word (fh, fm, fc, fp, uf, ul, ue, fr, aw, af, al, ae, ax, ay, ao, au, ak, ar, aq, an) (yd, ys, yp, sa) v1 v2 with ⟨w, hw, ew, hX, hY⟩ | ⟨hX, hY⟩
  · refine hX _ (br_t rfl (zq_prep hus hro hln ?_))
    intro f r q hr hrr
    have J2 : i_Rel (k + 5) (fh, fm, fc, fp, uf, ul, ue, f, aw, af, al, ae, ax, ay, ao, au, ak, r, q, an) (yd, ys, yp, sa) := And.intro hst (And.intro hus (And.intro hr hln))
    have hY0 : ∀ u v, u < 31 → v < 31 → (bt (sa (186 + u)) v = true ↔ bt (sa (186 + u)) v = true) := fun _ _ _ _ => Iff.rfl
    refine zx_wordOf ew ?_
    by_cases z : v3 < 0
    · refine Exists.intro 1 (br_f (by decide) (br_t z ?_))
      unfold wpY_image
      dsimp only
      refine hY _ (br_f (by decide) ?_)
      exact Exists.intro 32 (zq_image_neg ew hw z hY0 ⟨rfl, J2⟩ 31 0 0 (by omega) (by omega))
    · obtain ⟨K, hK, rfl⟩ := nI_of z
      obtain ⟨a, h1, h2⟩ := zq_image (fh := fh) (fm := fm) (fc := fc) (fp := fp) (uf := uf) (ul := ul) (ue := ue) (fr := f) (aw := aw) (af := af) (al := al) (ae := ae) (ax := ax) (ay := ay) (ao := ao) (au := au) (ak := ak) (ar := r) (aq := q) (an := an)
        (yd := yd) (ys := ys) (yp := yp) (sa := sa) ew hw hK hln hrr hY0 31 0 0 (by omega) (by omega)
      refine Exists.intro 32 (h1 _ ?_)
      unfold wpY_image
      dsimp only
      refine hY _ (br_f (by decide) ?_)
      exact Exists.intro 32 (h2 _ ⟨rfl, J2⟩)
  · refine hX _ (br_f (by decide) ?_)
    unfold wpY_image
    dsimp only
    exact hY _ (br_t rfl ⟨rfl, J⟩)
theorem i_vc_sources {k : Nat} {u : SX} {v : SY} (I : i_Rel k u v) (hk : k + 5 ≤ 2560) (v1 : Int32) (v2 : Int32) : wpX_sources (fun r u' => wpY_sources (fun r' => r' = r ∧ i_Rel (k + 5) u' v) v v1 v2) u v1 v2 := by
  refine zr_el (P := fun u v => wpX_sources (fun r u' => wpY_sources (fun r' => r' = r ∧ i_Rel (k + 5) u' v) v v1 v2) u v1 v2) ?_ I
  intro fh fm fc fp uf ul ue fr aw af al ae ax ay ao au ak ar aq an yd ys yp sa hst hus hro hln
  have J : i_Rel (k + 5) (fh, fm, fc, fp, uf, ul, ue, fr, aw, af, al, ae, ax, ay, ao, au, ak, ar, aq, an) (yd, ys, yp, sa) := And.intro hst (And.intro hus (And.intro hro hln))
  unfold wpX_sources
  dsimp only
  rcases zq_word (fh, fm, fc, fp, uf, ul, ue, fr, aw, af, al, ae, ax, ay, ao, au, ak, ar, aq, an) (yd, ys, yp, sa) v1 v2 with ⟨w, hw, ew, hX, hY⟩ | ⟨hX, hY⟩
  · refine hX _ (br_t rfl (zq_prep hus hro hln ?_))
    intro f r q hr hrr
    have J2 : i_Rel (k + 5) (fh, fm, fc, fp, uf, ul, ue, f, aw, af, al, ae, ax, ay, ao, au, ak, r, q, an) (yd, ys, yp, sa) := And.intro hst (And.intro hus (And.intro hr hln))
    have hY0 : ∀ u v, u < 31 → v < 31 → (bt (sa (186 + u)) v = true ↔ bt (sa (186 + u)) v = true) := fun _ _ _ _ => Iff.rfl
    refine zx_wordOf ew (Exists.intro 32 (zx_sources_28 hw hrr ?_ 32 0 (by omega) (by omega)))
    unfold wpY_sources
    dsimp only
    refine hY _ (br_f (by decide) ?_)
    exact Exists.intro 32 (zy_sources_16 ew hw hY0 ⟨rfl, J2⟩ 32 0 (by omega) (by omega))
  · refine hX _ (br_f (by decide) ?_)
    unfold wpY_sources
    dsimp only
    exact hY _ (br_t rfl ⟨rfl, J⟩)
theorem i_vc_pairs {k : Nat} {u : SX} {v : SY} (I : i_Rel k u v) (hk : k + 5 ≤ 2560) : wpX_pairs (fun r u' => wpY_pairs (fun r' => r' = r ∧ i_Rel (k + 5) u' v) v) u := by
  refine zr_el (P := fun u v => wpX_pairs (fun r u' => wpY_pairs (fun r' => r' = r ∧ i_Rel (k + 5) u' v) v) u) ?_ I
  intro fh fm fc fp uf ul ue fr aw af al ae ax ay ao au ak ar aq an yd ys yp sa hst hus hro hln
  unfold wpX_pairs
  dsimp only
  refine zq_prep hus hro hln ?_
  intro f r q hr hrr
  have J2 : i_Rel (k + 5) (fh, fm, fc, fp, uf, ul, ue, f, aw, af, al, ae, ax, ay, ao, au, ak, r, q, an) (yd, ys, yp, sa) := And.intro hst (And.intro hus (And.intro hr hln))
  have hY0 : ∀ u v, u < 31 → v < 31 → (bt (sa (186 + u)) v = true ↔ bt (sa (186 + u)) v = true) := fun _ _ _ _ => Iff.rfl
  refine Exists.intro 32 (zx_pairs_8 hrr ?_ 32 0 (by omega) (by omega))
  exact Exists.intro 32 (zy_pairs_4 hY0 ⟨rfl, J2⟩ 32 0 (by omega) (by omega))
theorem i_vc_fixed {k : Nat} {u : SX} {v : SY} (I : i_Rel k u v) (hk : k + 5 ≤ 2560) : wpX_fixed (fun r u' => wpY_fixed (fun r' => r' = r ∧ i_Rel (k + 5) u' v) v) u := by
  refine zr_el (P := fun u v => wpX_fixed (fun r u' => wpY_fixed (fun r' => r' = r ∧ i_Rel (k + 5) u' v) v) u) ?_ I
  intro fh fm fc fp uf ul ue fr aw af al ae ax ay ao au ak ar aq an yd ys yp sa hst hus hro hln
  unfold wpX_fixed
  dsimp only
  refine zq_prep hus hro hln ?_
  intro f r q hr hrr
  have J2 : i_Rel (k + 5) (fh, fm, fc, fp, uf, ul, ue, f, aw, af, al, ae, ax, ay, ao, au, ak, r, q, an) (yd, ys, yp, sa) := And.intro hst (And.intro hus (And.intro hr hln))
  have hY0 : ∀ u v, u < 31 → v < 31 → (bt (sa (186 + u)) v = true ↔ bt (sa (186 + u)) v = true) := fun _ _ _ _ => Iff.rfl
  refine Exists.intro 32 (zx_fixed_8 hrr ?_ 32 0 (by omega) (by omega))
  exact Exists.intro 32 (zy_fixed_4 hY0 ⟨rfl, J2⟩ 32 0 (by omega) (by omega))
theorem i_vc_twoSteps {k : Nat} {u : SX} {v : SY} (I : i_Rel k u v) (hk : k + 5 ≤ 2560) : wpX_twoSteps (fun r u' => wpY_twoSteps (fun r' => r' = r ∧ i_Rel (k + 5) u' v) v) u := by
  refine zr_el (P := fun u v => wpX_twoSteps (fun r u' => wpY_twoSteps (fun r' => r' = r ∧ i_Rel (k + 5) u' v) v) u) ?_ I
  intro fh fm fc fp uf ul ue fr aw af al ae ax ay ao au ak ar aq an yd ys yp sa hst hus hro hln
  unfold wpX_twoSteps
  dsimp only
  refine zq_prep hus hro hln ?_
  intro f r q hr hrr
  have J2 : i_Rel (k + 5) (fh, fm, fc, fp, uf, ul, ue, f, aw, af, al, ae, ax, ay, ao, au, ak, r, q, an) (yd, ys, yp, sa) := And.intro hst (And.intro hus (And.intro hr hln))
  have hY0 : ∀ u v, u < 31 → v < 31 → (bt (sa (186 + u)) v = true ↔ bt (sa (186 + u)) v = true) := fun _ _ _ _ => Iff.rfl
  refine Exists.intro 32 (zx_twoSteps_8 hrr ?_ 32 0 (by omega) (by omega))
  exact Exists.intro 32 (zy_twoSteps_4 hY0 ⟨rfl, J2⟩ 32 0 (by omega) (by omega))
theorem i_vc_domain {k : Nat} {u : SX} {v : SY} (I : i_Rel k u v) (hk : k + 5 ≤ 2560) : wpX_domain (fun r u' => wpY_domain (fun r' => r' = r ∧ i_Rel (k + 5) u' v) v) u := by
  refine zr_el (P := fun u v => wpX_domain (fun r u' => wpY_domain (fun r' => r' = r ∧ i_Rel (k + 5) u' v) v) u) ?_ I
  intro fh fm fc fp uf ul ue fr aw af al ae ax ay ao au ak ar aq an yd ys yp sa hst hus hro hln
  unfold wpX_domain
  dsimp only
  unfold wpX_having
  dsimp only
  refine zq_prep hus hro hln ?_
  intro f r q hr hrr
  have J2 : i_Rel (k + 5) (fh, fm, fc, fp, uf, ul, ue, f, aw, af, al, ae, ax, ay, ao, au, ak, r, q, an) (yd, ys, yp, sa) := And.intro hst (And.intro hus (And.intro hr hln))
  have hY0 : ∀ u v, u < 31 → v < 31 → (bt (sa (186 + u)) v = true ↔ bt (sa (186 + u)) v = true) := fun _ _ _ _ => Iff.rfl
  refine Exists.intro 32 (zx_having_8 (t := 1) (by omega) hrr ?_ 32 0 (by omega) (by omega))
  exact Exists.intro 32 (zy_domain_4 hY0 ⟨rfl, J2⟩ 32 0 (by omega) (by omega))
theorem i_vc_manyValued {k : Nat} {u : SX} {v : SY} (I : i_Rel k u v) (hk : k + 5 ≤ 2560) : wpX_manyValued (fun r u' => wpY_manyValued (fun r' => r' = r ∧ i_Rel (k + 5) u' v) v) u := by
  refine zr_el (P := fun u v => wpX_manyValued (fun r u' => wpY_manyValued (fun r' => r' = r ∧ i_Rel (k + 5) u' v) v) u) ?_ I
  intro fh fm fc fp uf ul ue fr aw af al ae ax ay ao au ak ar aq an yd ys yp sa hst hus hro hln
  unfold wpX_manyValued
  dsimp only
  unfold wpX_having
  dsimp only
  refine zq_prep hus hro hln ?_
  intro f r q hr hrr
  have J2 : i_Rel (k + 5) (fh, fm, fc, fp, uf, ul, ue, f, aw, af, al, ae, ax, ay, ao, au, ak, r, q, an) (yd, ys, yp, sa) := And.intro hst (And.intro hus (And.intro hr hln))
  have hY0 : ∀ u v, u < 31 → v < 31 → (bt (sa (186 + u)) v = true ↔ bt (sa (186 + u)) v = true) := fun _ _ _ _ => Iff.rfl
  refine Exists.intro 32 (zx_having_8 (t := 2) (by omega) hrr ?_ 32 0 (by omega) (by omega))
  exact Exists.intro 32 (zy_manyValued_4 hY0 ⟨rfl, J2⟩ 32 0 (by omega) (by omega))
end
