section
theorem pk_us {f : Nat → Int32} {k : Nat} {x : Int32} : upd f k x k = x := if_pos rfl
theorem pk_un {f : Nat → Int32} {k j : Nat} {x : Int32} (h : j ≠ k) : upd f k x j = f j := if_neg h
theorem pk_uLs {f : Nat → Int64} {k : Nat} {x : Int64} : vp_updL f k x k = x := if_pos rfl
theorem pk_uLn {f : Nat → Int64} {k j : Nat} {x : Int64} (h : j ≠ k) : vp_updL f k x j = f j := if_neg h
theorem pk_sub {a b : Nat} (h : b ≤ a) : nI a - nI b = nI (a - b) := by
  obtain ⟨c, rfl⟩ : ∃ c, a = c + b := ⟨a - b, by omega⟩
  rw [← nI_add, Int32.add_sub_cancel, Nat.add_sub_cancel]
theorem pk_m1 (n : Nat) : nI (n + 1) + (-1) = nI n := by
  rw [← nI_1, Int32.add_assoc, show (1 : Int32) + (-1) = 0 from rfl, Int32.add_zero]
theorem pk_mul (a b : Nat) : nI a * nI b = nI (a * b) := (Int32.ofNat_mul a b).symm
theorem pk_div {a d : Nat} (ha : a < 2 ^ 31) (h0 : 0 < d) (hd : d < 2 ^ 31) : nI a / nI d = nI (a / d) := by
  apply Int32.toInt_inj.mp
  rw [lg_idiv_nonneg (by rw [nI_toInt ha]; omega) (by rw [nI_toInt hd]; omega), nI_toInt ha, nI_toInt hd, nI_toInt (Nat.lt_of_le_of_lt (Nat.div_le_self a d) ha)]
  first | rfl | exact (Int.natCast_ediv _ _).symm
theorem pk_rem {a d : Nat} (ha : a < 2 ^ 31) (h0 : 0 < d) (hd : d < 2 ^ 31) : nI a - nI a / nI d * nI d = nI (a % d) := by
  rw [pk_div ha h0 hd, pk_mul, pk_sub (Nat.div_mul_le_self a d)]
  exact congrArg nI (by have := Nat.div_add_mod' a d; omega)
theorem pk_sub_toInt {a b : Nat} (ha : a < 2 ^ 30) (hb : b < 2 ^ 30) : (nI a - nI b).toInt = (a : Int) - b := by
  rw [Int32.toInt_sub, nI_toInt (by omega), nI_toInt (by omega)]
  exact Int.bmod_eq_of_le (by omega) (by omega)
theorem pk_sneg {a b : Nat} (hb : b < 2 ^ 30) (h : a < b) : nI a - nI b < 0 := by
  rw [Int32.lt_iff_toInt_lt, pk_sub_toInt (by omega) hb, show (0 : Int32).toInt = 0 from by decide]
  omega
theorem pk_ix (x : Int32) {n : Nat} (hn : n < 2 ^ 31) : x < 0 ∨ nI n ≤ x ∨ ∃ j : Nat, j < n ∧ x = nI j := by
  by_cases h : x < 0
  · exact Or.inl h
  · obtain ⟨j, hj, rfl⟩ := nI_of h
    by_cases h2 : j < n
    · exact Or.inr (Or.inr ⟨j, h2, rfl⟩)
    · exact Or.inr (Or.inl (nI_le (by omega) hj))
theorem pk_le {x y : Int32} {A B : Prop} (a b : Nat) (f : a ≤ b → A) (g : b < a → B) (hx : x = nI a := by rfl) (hy : y = nI b := by rfl) (ha : a < 2 ^ 31 := by omega) (hb : b < 2 ^ 31 := by omega) : (x ≤ y → A) ∧ (¬ x ≤ y → B) := by
  subst hx hy
  rw [nI_leI ha hb]
  exact ⟨f, fun z => g (by omega)⟩
theorem pk_lt {x y : Int32} {A B : Prop} (a b : Nat) (f : a < b → A) (g : b ≤ a → B) (hx : x = nI a := by rfl) (hy : y = nI b := by rfl) (ha : a < 2 ^ 31 := by omega) (hb : b < 2 ^ 31 := by omega) : (x < y → A) ∧ (¬ x < y → B) := by
  subst hx hy
  rw [nI_ltI ha hb]
  exact ⟨f, fun z => g (by omega)⟩
theorem pk_eq {x y : Int32} {A B : Prop} (a b : Nat) (f : a = b → A) (g : a ≠ b → B) (hx : x = nI a := by rfl) (hy : y = nI b := by rfl) (ha : a < 2 ^ 31 := by omega) (hb : b < 2 ^ 31 := by omega) : (x = y → A) ∧ (¬ x = y → B) := by
  subst hx hy
  rw [nI_eq ha hb]
  exact ⟨f, g⟩
theorem pk_in {x : Int32} (n N : Nat) (h : n < N) (hx : x = nI n := by rfl) (hN : N < 2 ^ 31 := by omega) : vp_in x N := by
  subst hx
  exact vp_in_nI h hN
theorem pk_cl {x : Int32} (n : Nat) (hx : x = nI n := by rfl) (h : n < 2 ^ 31 := by omega) : x.toNatClampNeg = n := by
  subst hx
  exact nI_clamp h
theorem pk_tn {n : Nat} (h : n < 2 ^ 32) : (nI n).toBitVec.toNat = n := Nat.mod_eq_of_lt h
theorem pk_and (x : Int32) {m : Int32} (k : Nat) (hm : m.toBitVec.toNat = 2 ^ k - 1) : x &&& m = nI (x.toBitVec.toNat % 2 ^ k) := by
  apply Int32.toBitVec_inj.mp
  apply BitVec.eq_of_toNat_eq
  rw [Int32.toBitVec_and, BitVec.toNat_and, hm, Nat.and_two_pow_sub_one_eq_mod]
  show _ = (BitVec.ofNat 32 _).toNat
  rw [BitVec.toNat_ofNat]
  exact (Nat.mod_eq_of_lt (Nat.lt_of_le_of_lt (Nat.mod_le _ _) x.toBitVec.isLt)).symm
theorem pk_andN {n : Nat} (h : n < 2 ^ 32) {m : Int32} (k : Nat) (hm : m.toBitVec.toNat = 2 ^ k - 1) : nI n &&& m = nI (n % 2 ^ k) := by
  rw [pk_and _ k hm, pk_tn h]
theorem pk_andE (x : Int32) {m : Int32} (k : Nat) (hm : m.toBitVec.toNat = 2 ^ k - 1) : ∃ j : Nat, j < 2 ^ k ∧ x &&& m = nI j := ⟨_, Nat.mod_lt _ (Nat.two_pow_pos k), pk_and x k hm⟩
theorem pk_andIn (x : Int32) {m : Int32} (k : Nat) (hm : m.toBitVec.toNat = 2 ^ k - 1) (hk : k ≤ 30) : vp_in (x &&& m) (2 ^ k) := by
  obtain ⟨j, hj, e⟩ := pk_andE x k hm
  rw [e]
  exact vp_in_nI hj (Nat.lt_of_le_of_lt (Nat.pow_le_pow_right (by decide) hk) (by decide))
theorem pk_shl (a s : Int32) (k : Nat) (hs : (s.toBitVec.smod 32).toNat = k) : (a <<< s).toBitVec.toNat = a.toBitVec.toNat * 2 ^ k % 2 ^ 32 := by
  show (a.toBitVec <<< (s.toBitVec.smod 32).toNat).toNat = _
  rw [hs, BitVec.toNat_shiftLeft, Nat.shiftLeft_eq]
theorem pk_shlN {n : Nat} (s : Int32) (k : Nat) (hs : (s.toBitVec.smod 32).toNat = k) (h : n * 2 ^ k < 2 ^ 32) : nI n <<< s = nI (n * 2 ^ k) := by
  apply Int32.toBitVec_inj.mp
  apply BitVec.eq_of_toNat_eq
  have hn : n < 2 ^ 32 := Nat.lt_of_le_of_lt (Nat.le_mul_of_pos_right n (Nat.two_pow_pos k)) h
  rw [pk_shl _ _ k hs, pk_tn hn, pk_tn h, Nat.mod_eq_of_lt h]
theorem pk_shr (a s : Int32) (k : Nat) (hs : (s.toBitVec.smod 32).toNat = k) : (a >>> s).toInt = a.toInt >>> k := by
  show (a.toBitVec.sshiftRight (s.toBitVec.smod 32).toNat).toInt = _
  rw [hs, BitVec.toInt_sshiftRight]
  rfl
theorem pk_shrN {n : Nat} (h : n < 2 ^ 31) (s : Int32) (k : Nat) (hs : (s.toBitVec.smod 32).toNat = k) : nI n >>> s = nI (n / 2 ^ k) := by
  apply Int32.toInt_inj.mp
  have h2 : n / 2 ^ k ≤ n := Nat.div_le_self _ _
  rw [pk_shr _ _ k hs, nI_toInt h, nI_toInt (by omega), Int.shiftRight_eq_div_pow]
  rfl
def bt (x : Int32) (i : Nat) : Bool := x.toBitVec.getLsbD i
theorem b_ext {x y : Int32} (h : ∀ i, i < 32 → bt x i = bt y i) : x = y := Int32.toBitVec_inj.mp (BitVec.eq_of_getLsbD_eq (fun i hi => h i hi))
theorem b_or (x y : Int32) (i : Nat) : bt (x ||| y) i = (bt x i || bt y i) := by unfold bt; rw [Int32.toBitVec_or, BitVec.getLsbD_or]
theorem b_and (x y : Int32) (i : Nat) : bt (x &&& y) i = (bt x i && bt y i) := by unfold bt; rw [Int32.toBitVec_and, BitVec.getLsbD_and]
theorem b_xor (x y : Int32) (i : Nat) : bt (x ^^^ y) i = (bt x i ^^ bt y i) := by unfold bt; rw [Int32.toBitVec_xor, BitVec.getLsbD_xor]
theorem b_big {x : Int32} {i : Nat} (h : 32 ≤ i) : bt x i = false := BitVec.getLsbD_of_ge _ _ h
theorem b_255 (i : Nat) : bt 255 i = decide (i < 8) := by
  rcases Nat.lt_or_ge i 32 with h | h
  · exact (by decide +kernel : ∀ i, i < 32 → bt 255 i = decide (i < 8)) i h
  · rw [b_big h, decide_eq_false (by omega)]
theorem b_65535 (i : Nat) : bt 65535 i = decide (i < 16) := by
  rcases Nat.lt_or_ge i 32 with h | h
  · exact (by decide +kernel : ∀ i, i < 32 → bt 65535 i = decide (i < 16)) i h
  · rw [b_big h, decide_eq_false (by omega)]
theorem b_m1 : ∀ i, i < 32 → bt (-1) i = true := by decide +kernel
theorem b_0 (i : Nat) : bt 0 i = false := BitVec.getLsbD_zero
theorem s_l : ∀ n, n < 32 → ((nI n &&& 31).toBitVec.smod 32).toNat = n := by decide +kernel
theorem s_u : ∀ n, n < 32 → (((nI n).toUInt32 &&& Int32.toUInt32 31).toBitVec % 32).toNat = n := by decide +kernel
theorem b_shl (n : Nat) (hn : n < 32) (x : Int32) {i : Nat} (hi : i < 32) : bt (x <<< (nI n &&& 31)) i = (decide (n ≤ i) && bt x (i - n)) := by
  unfold bt
  rw [Int32.toBitVec_shiftLeft]
  show (x.toBitVec <<< ((nI n &&& 31).toBitVec.smod 32).toNat).getLsbD i = _
  rw [s_l n hn, BitVec.getLsbD_shiftLeft]
  rcases Nat.lt_or_ge i n with h | h
  · simp [h, Nat.not_le.mpr h]
  · simp [hi, h, Nat.not_lt.mpr h]
theorem b_ushr (n : Nat) (hn : n < 32) (x : Int32) (i : Nat) : bt ((x.toUInt32 >>> ((nI n).toUInt32 &&& Int32.toUInt32 31)).toInt32) i = bt x (n + i) := by
  show (x.toUInt32 >>> ((nI n).toUInt32 &&& Int32.toUInt32 31)).toBitVec.getLsbD i = x.toUInt32.toBitVec.getLsbD (n + i)
  rw [UInt32.toBitVec_shiftRight]
  show (x.toUInt32.toBitVec >>> (((nI n).toUInt32 &&& Int32.toUInt32 31).toBitVec % 32).toNat).getLsbD i = _
  rw [s_u n hn, BitVec.getLsbD_ushiftRight]
theorem b_sshr (n : Nat) (hn : n < 32) (x : Int32) {i : Nat} (hi : i < 32) : bt (x >>> (nI n &&& 31)) i = if n + i < 32 then bt x (n + i) else bt x 31 := by
  unfold bt
  rw [Int32.toBitVec_shiftRight]
  show (x.toBitVec.sshiftRight ((nI n &&& 31).toBitVec.smod 32).toNat).getLsbD i = _
  rw [s_l n hn, BitVec.getLsbD_sshiftRight, BitVec.msb_eq_getLsbD_last]
  simp [hi]
theorem b_shl8 (x : Int32) {i : Nat} (hi : i < 32) : bt (x <<< ((8 : Int32) &&& 31)) i = (decide (8 ≤ i) && bt x (i - 8)) := b_shl 8 (by omega) x hi
theorem b_shl16 (x : Int32) {i : Nat} (hi : i < 32) : bt (x <<< ((16 : Int32) &&& 31)) i = (decide (16 ≤ i) && bt x (i - 16)) := b_shl 16 (by omega) x hi
theorem b_shl24 (x : Int32) {i : Nat} (hi : i < 32) : bt (x <<< ((24 : Int32) &&& 31)) i = (decide (24 ≤ i) && bt x (i - 24)) := b_shl 24 (by omega) x hi
theorem b_sshr8 (x : Int32) {i : Nat} (hi : i < 32) : bt (x >>> ((8 : Int32) &&& 31)) i = if 8 + i < 32 then bt x (8 + i) else bt x 31 := b_sshr 8 (by omega) x hi
end
section
theorem dc_bt1 (i : Nat) : bt 1 i = decide (i = 0) := by
  rcases Nat.lt_or_ge i 32 with h | h
  · exact (by decide +kernel : ∀ i, i < 32 → bt 1 i = decide (i = 0)) i h
  · rw [b_big h, decide_eq_false (by omega)]
theorem dc_bt15 (i : Nat) : bt 15 i = decide (i < 4) := by
  rcases Nat.lt_or_ge i 32 with h | h
  · exact (by decide +kernel : ∀ i, i < 32 → bt 15 i = decide (i < 4)) i h
  · rw [b_big h, decide_eq_false (by omega)]
theorem dc_bit1 (x : Int32) {s : Nat} (hs : s < 32) : ((x >>> (nI s &&& 31)) &&& 1) = if bt x s = true then 1 else 0 := by
  apply b_ext
  intro i hi
  rw [b_and, b_sshr s hs x hi, dc_bt1]
  by_cases h0 : i = 0
  · subst h0
    rw [Nat.add_zero, if_pos hs]
    cases h : bt x s
    · simp [b_0]
    · simp [dc_bt1]
  · rw [decide_eq_false h0, Bool.and_false]
    cases h : bt x s
    · simp [b_0]
    · simp [dc_bt1, h0]
theorem dc_tst (x : Int32) {s : Nat} (hs : s < 32) : ((x >>> (nI s &&& 31)) &&& 1) = 1 ↔ bt x s = true := by
  rw [dc_bit1 x hs]
  cases h : bt x s
  · exact ⟨fun z => absurd z (by decide), fun z => absurd z (by decide)⟩
  · exact ⟨fun _ => rfl, fun _ => by decide⟩
theorem dc_one {s : Nat} (hs : s < 32) (i : Nat) : bt ((1 : Int32) <<< (nI s &&& 31)) i = decide (i = s) := by
  rcases Nat.lt_or_ge i 32 with h | h
  · rw [b_shl s hs 1 h, dc_bt1]
    by_cases e : i = s
    · subst e; simp
    · rw [decide_eq_false e]
      by_cases l : s ≤ i
      · rw [decide_eq_false (p := i - s = 0) (by omega), Bool.and_false]
      · rw [decide_eq_false l, Bool.false_and]
  · rw [b_big h, decide_eq_false (by omega)]
theorem dc_set (x : Int32) {s : Nat} (hs : s < 32) (i : Nat) : bt (x ||| ((1 : Int32) <<< (nI s &&& 31))) i = (bt x i || decide (i = s)) := by
  rw [b_or, dc_one hs]
theorem dc_clr (x : Int32) {s : Nat} (hs : s < 32) (i : Nat) : bt (x &&& (((1 : Int32) <<< (nI s &&& 31)) ^^^ (-1))) i = (bt x i && !decide (i = s)) := by
  rw [b_and, b_xor, dc_one hs]
  rcases Nat.lt_or_ge i 32 with h | h
  · rw [b_m1 i h, Bool.xor_true]
  · rw [b_big h, Bool.false_and, Bool.false_and]
theorem dc_zero {x : Int32} (h : ∀ i, bt x i = false) : x = 0 := b_ext (fun i _ => by rw [h i, b_0])
def dc_cnt (f : Nat → Bool) : Nat → Nat
  | 0 => 0
  | n + 1 => dc_cnt f n + if f n = true then 1 else 0
theorem dc_cnt_s (f : Nat → Bool) (n : Nat) : dc_cnt f (n + 1) = dc_cnt f n + if f n = true then 1 else 0 := rfl
theorem dc_cnt_add (f : Nat → Bool) (a : Nat) : ∀ b, dc_cnt f (a + b) = dc_cnt f a + dc_cnt (fun i => f (a + i)) b
  | 0 => rfl
  | b + 1 => by
    rw [← Nat.add_assoc, dc_cnt_s, dc_cnt_s, dc_cnt_add f a b, Nat.add_assoc]
theorem dc_cnt_le (f : Nat → Bool) : ∀ n, dc_cnt f n ≤ n
  | 0 => Nat.le_refl 0
  | n + 1 => by
    have := dc_cnt_le f n
    rw [dc_cnt_s]
    split <;> omega
theorem dc_cnt_cg {f g : Nat → Bool} : ∀ n, (∀ i, i < n → f i = g i) → dc_cnt f n = dc_cnt g n
  | 0, _ => rfl
  | n + 1, h => by rw [dc_cnt_s, dc_cnt_s, dc_cnt_cg n (fun i hi => h i (by omega)), h n (by omega)]
theorem dc_cnt_fl (f : Nat → Bool) : ∀ n, dc_cnt f n = ((List.range n).filter f).length
  | 0 => rfl
  | n + 1 => by
    rw [List.range_succ, List.filter_append, List.length_append, ← dc_cnt_fl f n, dc_cnt_s]
    cases h : f n
    · simp [h]
    · simp [h]
theorem dc_addif (a : Nat) (b : Bool) : nI a + (if b = true then 1 else 0) = nI (a + if b = true then 1 else 0) := by
  cases b
  · exact Int32.add_zero _
  · exact nI_1 a
def dc_sum (f : Nat → Nat) : Nat → Nat
  | 0 => 0
  | n + 1 => dc_sum f n + f n
theorem dc_sum_s (f : Nat → Nat) (n : Nat) : dc_sum f (n + 1) = dc_sum f n + f n := rfl
theorem dc_sum_if (f : Nat → Nat) (r A : Nat) (hr : f r = 0) : ∀ n, dc_sum (fun j => if j = r then A else f j) n = (if r < n then A else 0) + dc_sum f n
  | 0 => rfl
  | n + 1 => by
    rw [dc_sum_s, dc_sum_s, dc_sum_if f r A hr n]
    show (if r < n then A else 0) + dc_sum f n + (if n = r then A else f n) = (if r < n + 1 then A else 0) + (dc_sum f n + f n)
    by_cases e : n = r
    · subst e
      rw [if_neg (Nat.lt_irrefl n), if_pos rfl, if_pos (Nat.lt_succ_self n), hr]
      omega
    · rw [if_neg e]
      by_cases l : r < n
      · rw [if_pos l, if_pos (show r < n + 1 from by omega)]
        omega
      · rw [if_neg l, if_neg (show ¬ r < n + 1 from by omega)]
        omega
theorem dc_sum_cg {f g : Nat → Nat} : ∀ n, (∀ i, i < n → f i = g i) → dc_sum f n = dc_sum g n
  | 0, _ => rfl
  | n + 1, h => by rw [dc_sum_s, dc_sum_s, dc_sum_cg n (fun i hi => h i (by omega)), h n (by omega)]
theorem dc_bitsL {post : Int32 → Prop} {x : Int32} (h : post (nI (dc_cnt (bt x) 12))) : ∀ m s, s + m = 12 → wX_bits_4 post x (m + 1) (nI (dc_cnt (bt x) s)) (nI s)
  | 0, s, e => by
    have hs : s = 12 := by omega
    subst hs
    exact br_t (nI_le (a := 12) (b := 12) (by decide) (by decide)) h
  | m + 1, s, e => by
    refine br_f (nI_ge (b := 12) (by omega) (by decide)) (nm_r (e' := nI (dc_cnt (bt x) (s + 1))) ?_ (nm_r (nI_1 s) (dc_bitsL h m (s + 1) (by omega))))
    rw [dc_bit1 x (by omega), dc_addif, dc_cnt_s]
theorem dc_bits {post : Int32 → Prop} {x : Int32} (h : post (nI (dc_cnt (bt x) 12))) : wpX_bits post x := ⟨13, dc_bitsL h 12 0 rfl⟩
section
variable {pn' dn D c t : Int32} {va ev kd dl pk op cn wt dv ws wv sg vl tm nx : Nat → Int32}
theorem dc_ybitsL {post : Int32 → SY → Prop} {x : Int32} (h : post (nI (dc_cnt (bt x) 12)) (pn', c, t, dn, va, ev, kd, dl, op, cn, wt, sg, vl, tm, nx)) : ∀ m s, s + m = 12 → wY_step_76 post x pn' c t dn va ev kd dl op cn wt sg vl tm nx (m + 1) (nI (dc_cnt (bt x) s)) (nI s)
  | 0, s, e => by
    have hs : s = 12 := by omega
    subst hs
    exact br_t (nI_le (a := 12) (b := 12) (by decide) (by decide)) h
  | m + 1, s, e => by
    refine br_f (nI_ge (b := 12) (by omega) (by decide)) (nm_r (e' := nI (dc_cnt (bt x) (s + 1))) ?_ (nm_r (nI_1 s) (dc_ybitsL h m (s + 1) (by omega))))
    rw [dc_bit1 x (by omega), dc_addif, dc_cnt_s]
theorem dc_ybits {post : Int32 → SY → Prop} {x : Int32} (h : post (nI (dc_cnt (bt x) 12)) (pn', c, t, dn, va, ev, kd, dl, op, cn, wt, sg, vl, tm, nx)) : ∃ n, wY_step_76 post x pn' c t dn va ev kd dl op cn wt sg vl tm nx n 0 0 := ⟨13, dc_ybitsL h 12 0 rfl⟩
end
section
variable {pn t : Nat} {dn D : Int32} {va ev kd dl pk cn wt dv ws wv : Nat → Int32}
theorem dc_slotE {t u : Nat} (h : t + u < 2 ^ 31) : (nI t + nI u) - (nI t + nI u) / 10 * 10 = nI ((t + u) % 10) := by
  rw [nI_add]
  exact pk_rem (d := 10) h (by decide) (by decide)
theorem dc_slot {post : Int32 → Prop} {u : Nat} (h : t + u < 2 ^ 31) (hp : post (nI ((t + u) % 10))) : wpX_slotAfter post (nI pn, nI t, dn, D, va, ev, kd, dl, pk, cn, wt, dv, ws, wv) (nI u) := by
  refine And.intro (by decide) ?_
  show post ((nI t + nI u) - (nI t + nI u) / 10 * 10)
  rw [dc_slotE h]
  exact hp
end
end
section
abbrev dc_E : Type := Nat × Nat × Int32
def dc_kp (s T : Nat) (e : dc_E) : Bool := decide (e.1 ≠ s ∨ e.2.1 < T)
def dc_put (L : List dc_E) (s T : Nat) (v : Int32) : List dc_E := L.filter (dc_kp s T) ++ [(s, T, v)]
def dc_AW (t : Nat) (L : List dc_E) : Prop := (∀ e ∈ L, e.1 < 12 ∧ t ≤ e.2.1 ∧ e.2.1 ≤ t + 9) ∧ L.Pairwise (fun a b => ¬ (a.1 = b.1 ∧ a.2.1 = b.2.1))
def dc_Pd (t : Nat) (D : Int32) (dv ws wv : Nat → Int32) (s T : Nat) (v : Int32) : Prop :=
  if T = t then bt D s = true ∧ dv s = v else bt (ws (T % 10)) s = true ∧ wv (T % 10 * 12 + s) = v
def dc_CR (t : Nat) (D : Int32) (dv ws wv : Nat → Int32) (L : List dc_E) : Prop :=
  (∀ i, 12 ≤ i → bt D i = false) ∧ (∀ j i, 12 ≤ i → bt (ws j) i = false) ∧ (∀ i, bt (ws (t % 10)) i = false) ∧
  ∀ (s T : Nat) (v : Int32), s < 12 → t ≤ T → T ≤ t + 9 → ((s, T, v) ∈ L ↔ dc_Pd t D dv ws wv s T v)
theorem dc_Pd_0 {t : Nat} {D : Int32} {dv ws wv : Nat → Int32} {s : Nat} {v : Int32} : dc_Pd t D dv ws wv s t v ↔ (bt D s = true ∧ dv s = v) := by
  unfold dc_Pd
  rw [if_pos rfl]
theorem dc_Pd_n {t : Nat} {D : Int32} {dv ws wv : Nat → Int32} {s T : Nat} {v : Int32} (h : T ≠ t) : dc_Pd t D dv ws wv s T v ↔ (bt (ws (T % 10)) s = true ∧ wv (T % 10 * 12 + s) = v) := by
  unfold dc_Pd
  rw [if_neg h]
theorem dc_put_mem {L : List dc_E} {s T : Nat} {v : Int32} {s' T' : Nat} {v' : Int32} : (s', T', v') ∈ dc_put L s T v ↔ (((s', T', v') ∈ L ∧ (s' ≠ s ∨ T' < T)) ∨ (s' = s ∧ T' = T ∧ v' = v)) := by
  unfold dc_put dc_kp
  rw [List.mem_append, List.mem_filter, List.mem_singleton, decide_eq_true_iff, Prod.mk.injEq, Prod.mk.injEq]
theorem dc_AW_nil (t : Nat) : dc_AW t [] := ⟨(fun _ h => by cases h), List.Pairwise.nil⟩
theorem dc_AW_put {t : Nat} {L : List dc_E} {s d : Nat} {v : Int32} (hs : s < 12) (hd : d ≤ 9) (A : dc_AW t L) : dc_AW t (dc_put L s (t + d) v) := by
  refine ⟨?_, ?_⟩
  · intro e he
    obtain ⟨s', T', v'⟩ := e
    rw [dc_put_mem] at he
    rcases he with h | h
    · exact A.1 _ h.1
    · obtain ⟨rfl, rfl, rfl⟩ := h
      exact ⟨hs, Nat.le_add_right t d, Nat.add_le_add_left hd t⟩
  · refine List.pairwise_append.mpr ⟨A.2.filter _, List.pairwise_singleton _ _, ?_⟩
    intro a ha b hb
    rw [List.mem_singleton] at hb
    subst hb
    rw [List.mem_filter] at ha
    have h := ha.2
    unfold dc_kp at h
    rw [decide_eq_true_iff] at h
    intro z
    rcases h with h | h
    · exact h z.1
    · have z2 : a.2.1 = t + d := z.2
      omega
def dc_cd (e : dc_E) : Nat := e.2.1 % 10 * 12 + e.1
theorem dc_AW_nd {t : Nat} {L : List dc_E} (A : dc_AW t L) : (L.map dc_cd).Nodup := by
  unfold List.Nodup
  rw [List.pairwise_map]
  refine A.2.imp_of_mem ?_
  intro a b ha hb h e
  have h1 := A.1 a ha
  have h2 := A.1 b hb
  unfold dc_cd at e
  apply h
  omega
theorem dc_AW_len {t : Nat} {L : List dc_E} (A : dc_AW t L) : L.length ≤ 120 := by
  have h := (dc_AW_nd A).length_le_of_subset (l₂ := List.range 120) (by
    intro c hc
    rw [List.mem_map] at hc
    obtain ⟨e, he, rfl⟩ := hc
    have := A.1 e he
    rw [List.mem_range]
    unfold dc_cd
    omega)
  rw [List.length_map, List.length_range] at h
  exact h
def dc_first (t : Nat) (L : List dc_E) (w : Nat) : Prop := (∃ e, e ∈ L ∧ e.2.1 = t + w) ∧ ∀ e, e ∈ L → t + w ≤ e.2.1
theorem dc_first_ex {t : Nat} : ∀ {L : List dc_E}, (∀ e ∈ L, e.1 < 12 ∧ t ≤ e.2.1 ∧ e.2.1 ≤ t + 9) → L ≠ [] → ∃ w, w ≤ 9 ∧ dc_first t L w
  | [], _, h => absurd rfl h
  | e :: L, A, _ => by
    have he := A e (List.mem_cons_self ..)
    by_cases hL : L = []
    · subst hL
      refine ⟨e.2.1 - t, by omega, ⟨e, List.mem_cons_self .., by omega⟩, ?_⟩
      intro e' h'
      rw [List.mem_singleton] at h'
      subst h'
      omega
    · obtain ⟨w, hw, ⟨e1, m1, q1⟩, f1⟩ := dc_first_ex (L := L) (fun x hx => A x (List.mem_cons_of_mem _ hx)) hL
      by_cases c : e.2.1 < t + w
      · refine ⟨e.2.1 - t, by omega, ⟨e, List.mem_cons_self .., by omega⟩, ?_⟩
        intro e' h'
        rcases List.mem_cons.mp h' with z | z
        · subst z; omega
        · have := f1 e' z; omega
      · refine ⟨w, hw, ⟨e1, List.mem_cons_of_mem _ m1, q1⟩, ?_⟩
        intro e' h'
        rcases List.mem_cons.mp h' with z | z
        · subst z; omega
        · exact f1 e' z
section
variable {t : Nat} {D : Int32} {dv ws wv : Nat → Int32} {L : List dc_E}
theorem dc_CR_D0 (C : dc_CR t D dv ws wv L) (h : ∀ e, e ∈ L → e.2.1 ≠ t) : D = 0 := by
  refine dc_zero ?_
  intro i
  rcases Nat.lt_or_ge i 12 with hi | hi
  · cases hb : bt D i
    · rfl
    · exact absurd rfl (h (i, t, dv i) ((C.2.2.2 i t (dv i) hi (by omega) (by omega)).mpr (dc_Pd_0.mpr ⟨hb, rfl⟩)))
  · exact C.1 i hi
theorem dc_CR_Dn (A : dc_AW t L) (C : dc_CR t D dv ws wv L) (h : ∃ e, e ∈ L ∧ e.2.1 = t) : ¬ D = 0 := by
  intro z
  obtain ⟨⟨s, T, v⟩, he, q⟩ := h
  have q' : T = t := q
  subst q'
  have hs := A.1 _ he
  have := dc_Pd_0.mp ((C.2.2.2 s T v hs.1 hs.2.1 hs.2.2).mp he)
  rw [z, b_0] at this
  exact absurd this.1 (by decide)
theorem dc_CR_w0 {u : Nat} (C : dc_CR t D dv ws wv L) (hu : u ≤ 9) (h : ∀ e, e ∈ L → e.2.1 ≠ t + u) : u = 0 ∨ ws ((t + u) % 10) = 0 := by
  by_cases u0 : u = 0
  · exact Or.inl u0
  refine Or.inr (dc_zero ?_)
  intro i
  rcases Nat.lt_or_ge i 12 with hi | hi
  · cases hb : bt (ws ((t + u) % 10)) i
    · rfl
    · exact absurd rfl (h (i, t + u, wv ((t + u) % 10 * 12 + i)) ((C.2.2.2 i (t + u) _ hi (by omega) (by omega)).mpr ((dc_Pd_n (by omega)).mpr ⟨hb, rfl⟩)))
  · exact C.2.1 _ i hi
theorem dc_CR_wn {u : Nat} (A : dc_AW t L) (C : dc_CR t D dv ws wv L) (hu : 0 < u) (h : ∃ e, e ∈ L ∧ e.2.1 = t + u) : ¬ ws ((t + u) % 10) = 0 := by
  intro z
  obtain ⟨⟨s, T, v⟩, he, q⟩ := h
  have q' : T = t + u := q
  subst q'
  have hs := A.1 _ he
  have := (dc_Pd_n (by omega)).mp ((C.2.2.2 s (t + u) v hs.1 hs.2.1 hs.2.2).mp he)
  rw [z, b_0] at this
  exact absurd this.1 (by decide)
theorem dc_cnt_blk (W : Nat → Int32) : ∀ n, dc_cnt (fun c => bt (W (c / 12)) (c % 12)) (12 * n) = dc_sum (fun j => dc_cnt (bt (W j)) 12) n
  | 0 => rfl
  | n + 1 => by
    rw [dc_sum_s, ← dc_cnt_blk W n, Nat.mul_add, Nat.mul_one, dc_cnt_add]
    refine congrArg (fun z => _ + z) (dc_cnt_cg 12 ?_)
    intro i hi
    rw [show (12 * n + i) / 12 = n from by omega, show (12 * n + i) % 12 = i from by omega]
theorem dc_CR_len (A : dc_AW t L) (C : dc_CR t D dv ws wv L) : L.length = dc_cnt (bt D) 12 + dc_sum (fun j => dc_cnt (bt (ws j)) 12) 10 := by
  have e3 : dc_sum (fun j => dc_cnt (bt (if j = t % 10 then D else ws j)) 12) 10 = dc_cnt (bt D) 12 + dc_sum (fun j => dc_cnt (bt (ws j)) 12) 10 := by
    have h := dc_sum_if (fun j => dc_cnt (bt (ws j)) 12) (t % 10) (dc_cnt (bt D) 12) (by
      show dc_cnt (bt (ws (t % 10))) 12 = 0
      rw [dc_cnt_cg (g := fun _ => false) 12 (fun i _ => C.2.2.1 i)]
      rfl) 10
    rw [if_pos (by omega)] at h
    rw [← h]
    refine dc_sum_cg 10 ?_
    intro j _
    show dc_cnt (bt (if j = t % 10 then D else ws j)) 12 = if j = t % 10 then _ else _
    by_cases hj : j = t % 10
    · rw [if_pos hj, if_pos hj]
    · rw [if_neg hj, if_neg hj]
  rw [← e3, ← dc_cnt_blk (fun j => if j = t % 10 then D else ws j) 10, dc_cnt_fl, ← List.length_map (f := dc_cd)]
  refine List.Perm.length_eq ((List.perm_ext_iff_of_nodup (dc_AW_nd A) (List.nodup_range.filter _)).mpr ?_)
  intro c
  rw [List.mem_map, List.mem_filter, List.mem_range]
  refine ⟨?_, ?_⟩
  · rintro ⟨⟨s, T, v⟩, he, rfl⟩
    have hs : s < 12 ∧ t ≤ T ∧ T ≤ t + 9 := A.1 _ he
    have h := (C.2.2.2 s T v hs.1 hs.2.1 hs.2.2).mp he
    show T % 10 * 12 + s < 12 * 10 ∧ bt (if (T % 10 * 12 + s) / 12 = t % 10 then D else ws ((T % 10 * 12 + s) / 12)) ((T % 10 * 12 + s) % 12) = true
    refine ⟨by omega, ?_⟩
    rw [show (T % 10 * 12 + s) / 12 = T % 10 from by omega, show (T % 10 * 12 + s) % 12 = s from by omega]
    by_cases q : T = t
    · subst q
      rw [if_pos rfl]
      exact (dc_Pd_0.mp h).1
    · rw [if_neg (by omega)]
      exact ((dc_Pd_n q).mp h).1
  · rintro ⟨hc, hb⟩
    have hb' : bt (if c / 12 = t % 10 then D else ws (c / 12)) (c % 12) = true := hb
    by_cases q : c / 12 = t % 10
    · rw [if_pos q] at hb'
      refine ⟨(c % 12, t, dv (c % 12)), (C.2.2.2 _ _ _ (by omega) (by omega) (by omega)).mpr (dc_Pd_0.mpr ⟨hb', rfl⟩), ?_⟩
      show t % 10 * 12 + c % 12 = c
      omega
    · rw [if_neg q] at hb'
      obtain ⟨T, h1, h2, h3⟩ : ∃ T, t ≤ T ∧ T ≤ t + 9 ∧ T % 10 = c / 12 := ⟨t + (c / 12 + 10 - t % 10) % 10, by omega, by omega, by omega⟩
      have hT : T ≠ t := by
        intro z
        subst z
        exact q h3.symm
      rw [← h3] at hb'
      refine ⟨(c % 12, T, wv (T % 10 * 12 + c % 12)), (C.2.2.2 _ _ _ (by omega) h1 h2).mpr ((dc_Pd_n hT).mpr ⟨hb', rfl⟩), ?_⟩
      show T % 10 * 12 + c % 12 = c
      omega
end
end
section
def dc_cl (t s a u : Nat) (ws ws1 : Nat → Int32) : Prop :=
  (∀ j i, bt (ws1 j) i = true → bt (ws j) i = true) ∧
  (∀ i T, t ≤ T → T ≤ t + 9 → bt (ws1 (T % 10)) i = (bt (ws (T % 10)) i && !(decide (i = s) && decide (t + a ≤ T ∧ T < t + u))))
theorem dc_cl_0 (t s a : Nat) (ws : Nat → Int32) : dc_cl t s a a ws ws := by
  refine ⟨fun _ _ h => h, fun i T _ _ => ?_⟩
  rw [decide_eq_false (p := t + a ≤ T ∧ T < t + a) (by omega), Bool.and_false, Bool.not_false, Bool.and_true]
theorem dc_cl_s {t s a u : Nat} {ws ws1 : Nat → Int32} (hs : s < 32) (ha : a ≤ u) (hu : u ≤ 9) (h : dc_cl t s a u ws ws1) :
    dc_cl t s a (u + 1) ws (upd ws1 ((t + u) % 10) (ws1 ((t + u) % 10) &&& (((1 : Int32) <<< (nI s &&& 31)) ^^^ (-1)))) := by
  refine ⟨?_, ?_⟩
  · intro j i hb
    by_cases hj : j = (t + u) % 10
    · subst hj
      rw [pk_us, dc_clr _ hs, Bool.and_eq_true] at hb
      exact h.1 _ _ hb.1
    · rw [pk_un hj] at hb
      exact h.1 _ _ hb
  · intro i T h1 h2
    by_cases hj : T = t + u
    · subst hj
      rw [pk_us, dc_clr _ hs, h.2 i (t + u) h1 h2, decide_eq_false (p := t + a ≤ t + u ∧ t + u < t + u) (by omega), decide_eq_true (p := t + a ≤ t + u ∧ t + u < t + (u + 1)) (by omega)]
      simp
    · rw [pk_un (by omega), h.2 i T h1 h2]
      have e : decide (t + a ≤ T ∧ T < t + u) = decide (t + a ≤ T ∧ T < t + (u + 1)) := decide_eq_decide.mpr (by omega)
      rw [e]
section
variable {t : Nat} {D : Int32} {dv ws wv ws1 : Nat → Int32} {L : List dc_E} {s d : Nat} {v : Int32}
theorem dc_cl_m {a u : Nat} (h : dc_cl t s a u ws ws1) (C : dc_CR t D dv ws wv L) : (∀ j i, 12 ≤ i → bt (ws1 j) i = false) ∧ (∀ i, bt (ws1 (t % 10)) i = false) := by
  refine ⟨fun j i hi => ?_, fun i => ?_⟩
  · cases hb : bt (ws1 j) i
    · rfl
    · exact absurd (h.1 j i hb) (by rw [C.2.1 j i hi]; decide)
  · cases hb : bt (ws1 (t % 10)) i
    · rfl
    · exact absurd (h.1 _ i hb) (by rw [C.2.2.1 i]; decide)
theorem dc_CR_put0 (hs : s < 12) (C : dc_CR t D dv ws wv L) (h : dc_cl t s 1 10 ws ws1) : dc_CR t (D ||| ((1 : Int32) <<< (nI s &&& 31))) (upd dv s v) ws1 wv (dc_put L s (t + 0) v) := by
  have m := dc_cl_m h C
  refine ⟨fun i hi => ?_, m.1, m.2, ?_⟩
  · rw [dc_set _ (by omega), C.1 i hi, decide_eq_false (by omega)]
    rfl
  intro s' T v' hs' h1 h2
  rw [dc_put_mem, C.2.2.2 s' T v' hs' h1 h2]
  by_cases q : T = t
  · subst q
    rw [dc_Pd_0, dc_Pd_0, dc_set _ (by omega)]
    by_cases e : s' = s
    · subst e
      rw [pk_us]
      constructor
      · rintro (z | z)
        · exact absurd z.2 (by omega)
        · exact ⟨by simp, z.2.2.symm⟩
      · intro z
        exact Or.inr ⟨rfl, rfl, z.2.symm⟩
    · rw [pk_un e, decide_eq_false e, Bool.or_false]
      constructor
      · rintro (z | z)
        · exact z.1
        · exact absurd z.1 e
      · intro z
        exact Or.inl ⟨z, Or.inl e⟩
  · rw [dc_Pd_n q, dc_Pd_n q, h.2 s' T h1 h2, decide_eq_true (p := t + 1 ≤ T ∧ T < t + 10) (by omega), Bool.and_true]
    by_cases e : s' = s
    · subst e
      simp
      omega
    · rw [decide_eq_false e, Bool.not_false, Bool.and_true]
      constructor
      · rintro (z | z)
        · exact z.1
        · exact absurd z.1 e
      · intro z
        exact Or.inl ⟨z, Or.inl e⟩
theorem dc_CR_putd (hs : s < 12) (hd : d ≤ 9) (h0 : 0 < d) (C : dc_CR t D dv ws wv L) (h : dc_cl t s d 10 ws ws1) :
    dc_CR t D dv (upd ws1 ((t + d) % 10) (ws1 ((t + d) % 10) ||| ((1 : Int32) <<< (nI s &&& 31)))) (upd wv ((t + d) % 10 * 12 + s) v) (dc_put L s (t + d) v) := by
  have m := dc_cl_m h C
  refine ⟨C.1, ?_, ?_, ?_⟩
  · intro j i hi
    by_cases hj : j = (t + d) % 10
    · subst hj
      rw [pk_us, dc_set _ (by omega), m.1 _ i hi, decide_eq_false (by omega)]
      rfl
    · rw [pk_un hj]
      exact m.1 j i hi
  · intro i
    rw [pk_un (by omega)]
    exact m.2 i
  intro s' T v' hs' h1 h2
  rw [dc_put_mem, C.2.2.2 s' T v' hs' h1 h2]
  by_cases q : T = t
  · subst q
    rw [dc_Pd_0, dc_Pd_0]
    constructor
    · rintro (z | z)
      · exact z.1
      · exact absurd z.2.1 (by omega)
    · intro z
      exact Or.inl ⟨z, Or.inr (by omega)⟩
  · rw [dc_Pd_n q, dc_Pd_n q]
    by_cases q2 : T = t + d
    · subst q2
      rw [pk_us, dc_set _ (by omega), h.2 s' (t + d) h1 h2]
      by_cases e : s' = s
      · subst e
        rw [pk_us]
        constructor
        · rintro (z | z)
          · exact absurd z.2 (by omega)
          · exact ⟨by simp, z.2.2.symm⟩
        · intro z
          exact Or.inr ⟨rfl, rfl, z.2.symm⟩
      · rw [pk_un (by omega), decide_eq_false e, Bool.or_false, Bool.false_and, Bool.not_false, Bool.and_true]
        constructor
        · rintro (z | z)
          · exact z.1
          · exact absurd z.1 e
        · intro z
          exact Or.inl ⟨z, Or.inl e⟩
    · rw [pk_un (by omega), pk_un (by omega), h.2 s' T h1 h2]
      by_cases e : s' = s
      · subst e
        by_cases l : T < t + d
        · rw [decide_eq_false (p := t + d ≤ T ∧ T < t + 10) (by omega), Bool.and_false, Bool.not_false, Bool.and_true]
          constructor
          · rintro (z | z)
            · exact z.1
            · exact absurd z.2.1 q2
          · intro z
            exact Or.inl ⟨z, Or.inr l⟩
        · rw [decide_eq_true (p := t + d ≤ T ∧ T < t + 10) (by omega)]
          simp
          omega
      · rw [decide_eq_false e, Bool.false_and, Bool.not_false, Bool.and_true]
        constructor
        · rintro (z | z)
          · exact z.1
          · exact absurd z.1 e
        · intro z
          exact Or.inl ⟨z, Or.inl e⟩
end
section
variable {pn t : Nat} {dn D : Int32} {va ev kd dl pk cn wt dv ws wv : Nat → Int32} {s d : Nat} {v x3 : Int32} {L : List dc_E} {post : SX → Prop}
theorem dc_xclr {a : Nat} (hs : s < 12) (ht : t ≤ 1000000) (K : ∀ ws1, dc_cl t s a 10 ws ws1 → wX_putDown_16 post (nI s) v x3 ((1 : Int32) <<< (nI s &&& 31)) (nI pn) (nI t) dn D 1 (nI 10) va ev kd dl pk cn wt dv ws1 wv) :
    ∀ m u ws1, u + m = 10 → a ≤ u → dc_cl t s a u ws ws1 → wX_putDown_16 post (nI s) v x3 ((1 : Int32) <<< (nI s &&& 31)) (nI pn) (nI t) dn D (m + 1) (nI u) va ev kd dl pk cn wt dv ws1 wv
  | 0, u, ws1, e, _, h => by
    have hu : u = 10 := by omega
    subst hu
    exact K ws1 h
  | m + 1, u, ws1, e, ha, h => by
    have hc : (nI ((t + u) % 10)).toNatClampNeg = (t + u) % 10 := nI_clamp (by omega)
    have hi : vp_in (nI ((t + u) % 10)) 10 := vp_in_nI (by omega) (by decide)
    refine br_f (nI_ge (b := 10) (by omega) (by decide)) (dc_slot (by omega) ?_)
    refine And.intro hi (And.intro hi (nm_r (e' := upd ws1 ((t + u) % 10) (ws1 ((t + u) % 10) &&& (((1 : Int32) <<< (nI s &&& 31)) ^^^ (-1)))) (by rw [hc]) (nm_r (nI_1 u) ?_)))
    exact dc_xclr hs ht K m (u + 1) _ (by omega) (by omega) (dc_cl_s (by omega) ha (by omega) h)
theorem dc_xput (hs : s < 12) (hd : d ≤ 9) (ht : t ≤ 1000000) (C : dc_CR t D dv ws wv L)
    (K : ∀ D' dv' ws' wv', dc_CR t D' dv' ws' wv' (dc_put L s (t + d) v) → post (nI pn, nI t, dn, D', va, ev, kd, dl, pk, cn, wt, dv', ws', wv')) : wpX_putDown post (nI pn, nI t, dn, D, va, ev, kd, dl, pk, cn, wt, dv, ws, wv) (nI s) v (nI d) := by
  refine nm_e ?_
  by_cases h0 : d = 0
  · subst h0
    refine br_t (nI_le (a := 0) (b := 0) (by decide) (by decide)) ⟨10, dc_xclr (a := 1) hs ht ?_ 9 1 ws rfl (by omega) (dc_cl_0 t s 1 ws)⟩
    intro ws1 h
    refine br_t (nI_le (a := 10) (b := 10) (by decide) (by decide)) (br_t rfl (nm_e (And.intro (vp_in_nI hs (by decide)) (nm_r (e' := upd dv s v) (by rw [nI_clamp (by omega)]) ?_))))
    exact K _ _ _ _ (dc_CR_put0 hs C h)
  · refine br_f (nI_nle (by omega) (by omega)) ⟨10 - d + 1, dc_xclr (a := d) hs ht ?_ (10 - d) d ws (by omega) (by omega) (dc_cl_0 t s d ws)⟩
    intro ws1 h
    have hc : (nI ((t + d) % 10)).toNatClampNeg = (t + d) % 10 := nI_clamp (by omega)
    have hi : vp_in (nI ((t + d) % 10)) 10 := vp_in_nI (by omega) (by decide)
    have hx : nI ((t + d) % 10) * 12 + nI s = nI ((t + d) % 10 * 12 + s) := by
      rw [← nI_add, ← pk_mul]
      rfl
    refine br_t (nI_le (a := 10) (b := 10) (by decide) (by decide)) (br_f (nI_ne0 (by omega) (by omega)) (dc_slot (by omega) ?_))
    refine And.intro hi (And.intro hi (nm_r (e' := upd ws1 ((t + d) % 10) (ws1 ((t + d) % 10) ||| ((1 : Int32) <<< (nI s &&& 31)))) (by rw [hc]) (And.intro (by rw [hx]; exact vp_in_nI (by omega) (by decide)) (nm_r (e' := upd wv ((t + d) % 10 * 12 + s) v) (by rw [hx, nI_clamp (by omega)]) ?_))))
    exact K _ _ _ _ (dc_CR_putd hs hd (by omega) C h)
end
end
section
def dc_ent (t : Nat) (sg vl tm nx : Nat → Int32) (i : Nat) (e : dc_E) : Prop := sg i = nI e.1 ∧ vl i = e.2.2 ∧ tm i = nI e.2.1 ∧ nx i = if e.2.1 = t then 1 else 0
def dc_RY (t : Nat) (sg vl tm nx : Nat → Int32) : Nat → List dc_E → Prop
  | _, [] => True
  | i, e :: L => dc_ent t sg vl tm nx i e ∧ dc_RY t sg vl tm nx (i + 1) L
section
variable {t : Nat} {sg vl tm nx : Nat → Int32}
theorem dc_RY_app : ∀ (K Q : List dc_E) (i : Nat), dc_RY t sg vl tm nx i (K ++ Q) ↔ (dc_RY t sg vl tm nx i K ∧ dc_RY t sg vl tm nx (i + K.length) Q)
  | [], Q, i => by
    show dc_RY t sg vl tm nx i Q ↔ (True ∧ dc_RY t sg vl tm nx (i + 0) Q)
    rw [true_and, Nat.add_zero]
  | e :: K, Q, i => by
    show (dc_ent t sg vl tm nx i e ∧ dc_RY t sg vl tm nx (i + 1) (K ++ Q)) ↔ ((dc_ent t sg vl tm nx i e ∧ dc_RY t sg vl tm nx (i + 1) K) ∧ dc_RY t sg vl tm nx (i + (K.length + 1)) Q)
    rw [dc_RY_app K Q (i + 1), and_assoc, show i + 1 + K.length = i + (K.length + 1) from by omega]
theorem dc_RY_cg {sg' vl' tm' nx' : Nat → Int32} : ∀ (L : List dc_E) (i : Nat), (∀ j, i ≤ j → j < i + L.length → sg' j = sg j ∧ vl' j = vl j ∧ tm' j = tm j ∧ nx' j = nx j) → dc_RY t sg vl tm nx i L → dc_RY t sg' vl' tm' nx' i L
  | [], _, _, _ => trivial
  | e :: L, i, h, R => by
    have hl : (e :: L).length = L.length + 1 := rfl
    have h0 := h i (Nat.le_refl i) (by omega)
    refine ⟨?_, dc_RY_cg L (i + 1) (fun j h1 h2 => h j (by omega) (by omega)) R.2⟩
    have R1 := R.1
    unfold dc_ent at R1 ⊢
    rw [h0.1, h0.2.1, h0.2.2.1, h0.2.2.2]
    exact R1
theorem dc_RY_t {t' : Nat} : ∀ (L : List dc_E) (i : Nat), (∀ e, e ∈ L → (e.2.1 = t ↔ e.2.1 = t')) → dc_RY t sg vl tm nx i L → dc_RY t' sg vl tm nx i L
  | [], _, _, _ => trivial
  | e :: L, i, h, R => by
    refine ⟨?_, dc_RY_t L (i + 1) (fun x hx => h x (List.mem_cons_of_mem _ hx)) R.2⟩
    have R1 := R.1
    unfold dc_ent at R1 ⊢
    refine ⟨R1.1, R1.2.1, R1.2.2.1, ?_⟩
    rw [R1.2.2.2]
    have h0 := h e (List.mem_cons_self ..)
    by_cases c : e.2.1 = t
    · rw [if_pos c, if_pos (h0.mp c)]
    · rw [if_neg c, if_neg (fun z => c (h0.mpr z))]
theorem dc_RY_u {a b c d : Int32} (k : Nat) (L : List dc_E) (i : Nat) (h : k < i ∨ i + L.length ≤ k) (R : dc_RY t sg vl tm nx i L) : dc_RY t (upd sg k a) (upd vl k b) (upd tm k c) (upd nx k d) i L := by
  refine dc_RY_cg L i ?_ R
  intro j h1 h2
  have hj : j ≠ k := by omega
  exact ⟨pk_un hj, pk_un hj, pk_un hj, pk_un hj⟩
theorem dc_RY_snoc {a b c d : Int32} (K : List dc_E) (e : dc_E) (ha : a = nI e.1) (hb : b = e.2.2) (hc : c = nI e.2.1) (hd : d = if e.2.1 = t then 1 else 0) (R : dc_RY t sg vl tm nx 0 K) :
    dc_RY t (upd sg K.length a) (upd vl K.length b) (upd tm K.length c) (upd nx K.length d) 0 (K ++ [e]) := by
  rw [dc_RY_app]
  refine ⟨dc_RY_u K.length K 0 (by omega) R, ?_, trivial⟩
  rw [Nat.zero_add]
  exact ⟨pk_us.trans ha, pk_us.trans hb, pk_us.trans hc, pk_us.trans hd⟩
end
theorem dc_nar (c : Prop) [Decidable c] : vp_nar .boolean (if c then 1 else 0) = if c then 1 else 0 := by
  by_cases h : c
  · rw [if_pos h]; rfl
  · rw [if_neg h]; rfl
section
variable {pn t : Nat} {dn c : Int32} {va ev kd dl op cn wt : Nat → Int32} {post : SY → Prop}
theorem dc_ymove {sg vl tm nx : Nat → Int32} {i k : Nat} {e : dc_E} {f_now : Int32} (hi : i < 128) (hk : k < 128) (E : dc_ent t sg vl tm nx i e)
    (K : post (nI pn, c, f_now, dn, va, ev, kd, dl, op, cn, wt, upd sg k (nI e.1), upd vl k e.2.2, upd tm k (nI e.2.1), upd nx k (if e.2.1 = t then 1 else 0))) : wpY_move post (nI pn, c, f_now, dn, va, ev, kd, dl, op, cn, wt, sg, vl, tm, nx) (nI i) (nI k) := by
  have a1 : vp_in (nI i) 128 := vp_in_nI hi (by decide)
  have a2 : vp_in (nI k) 128 := vp_in_nI hk (by decide)
  have c1 : (nI i).toNatClampNeg = i := nI_clamp (by omega)
  have c2 : (nI k).toNatClampNeg = k := nI_clamp (by omega)
  refine And.intro a1 (And.intro a2 (nm_r (e' := upd sg k (nI e.1)) (by rw [c1, c2, E.1]) ?_))
  refine And.intro a1 (And.intro a2 (nm_r (e' := upd vl k e.2.2) (by rw [c1, c2, E.2.1]) ?_))
  refine And.intro a1 (And.intro a2 (nm_r (e' := upd tm k (nI e.2.1)) (by rw [c1, c2, E.2.2.1]) ?_))
  refine And.intro a1 (And.intro a2 (nm_r (e' := upd nx k (if e.2.1 = t then 1 else 0)) (by rw [c1, c2, E.2.2.2, dc_nar]) ?_))
  exact K
theorem dc_yputL {s d : Nat} {v : Int32} (hs : s < 12) (hd : d ≤ 9) (ht : t ≤ 1000000) : ∀ (Q K : List dc_E) (i : Nat) (sg vl tm nx : Nat → Int32), dc_RY t sg vl tm nx 0 K → dc_RY t sg vl tm nx i Q → K.length ≤ i → i + Q.length ≤ 120 → (∀ e, e ∈ Q → e.1 < 12 ∧ t ≤ e.2.1 ∧ e.2.1 ≤ t + 9) →
    (∀ sg' vl' tm' nx', dc_RY t sg' vl' tm' nx' 0 (K ++ dc_put Q s (t + d) v) → post (nI pn, nI (K ++ dc_put Q s (t + d) v).length, nI t, dn, va, ev, kd, dl, op, cn, wt, sg', vl', tm', nx')) →
    wY_put_6 post (nI s) v (nI d) (Q.length + 1) (nI K.length) (nI i) (nI pn) (nI (i + Q.length)) (nI t) dn va ev kd dl op cn wt sg vl tm nx
  | [], K, i, sg, vl, tm, nx, RK, _, hK, hi, _, P => by
    have a1 : vp_in (nI K.length) 128 := vp_in_nI (by omega) (by decide)
    have c1 : (nI K.length).toNatClampNeg = K.length := nI_clamp (by omega)
    have l1 : nI (K ++ dc_put [] s (t + d) v).length = nI K.length + 1 := by
      rw [nI_1]
      exact congrArg nI (List.length_append ..)
    refine br_t (nI_le (Nat.le_refl i) (by omega)) (And.intro a1 (nm_r (e' := upd sg K.length (nI s)) (by rw [c1]) (And.intro a1 (nm_r (e' := upd vl K.length v) (by rw [c1]) (And.intro a1 (nm_r (e' := upd tm K.length (nI (t + d))) (by rw [c1, nI_add]) ?_))))))
    by_cases h0 : d = 0
    · subst h0
      refine br_t rfl (And.intro a1 (nm_r (e' := upd nx K.length 1) (by rw [c1]; rfl) (nm_r l1.symm ?_)))
      exact P _ _ _ _ (dc_RY_snoc K (s, t + 0, v) rfl rfl rfl (if_pos rfl).symm RK)
    · refine br_f (nI_ne0 (by omega) (by omega)) (And.intro a1 (nm_r (e' := upd nx K.length 0) (by rw [c1]; rfl) (nm_r l1.symm ?_)))
      exact P _ _ _ _ (dc_RY_snoc K (s, t + d, v) rfl rfl rfl (if_neg (show ¬ (t + d = t) from by omega)).symm RK)
  | e :: Q, K, i, sg, vl, tm, nx, RK, RQ, hK, hi, B, P => by
    have hl : (e :: Q).length = Q.length + 1 := rfl
    have he := B e (List.mem_cons_self ..)
    have B' : ∀ x, x ∈ Q → x.1 < 12 ∧ t ≤ x.2.1 ∧ x.2.1 ≤ t + 9 := fun x hx => B x (List.mem_cons_of_mem _ hx)
    have a1 : vp_in (nI i) 128 := vp_in_nI (by omega) (by decide)
    have c1 : (nI i).toNatClampNeg = i := nI_clamp (by omega)
    have E : dc_ent t sg vl tm nx i e := RQ.1
    have fe : nI (i + (e :: Q).length) = nI (i + 1 + Q.length) := congrArg nI (by omega)
    have keep : dc_kp s (t + d) e = true → wY_put_42 post (wY_put_6 post (nI s) v (nI d) (Q.length + 1)) (nI s) v (nI d) (nI K.length) (nI i) (nI pn) (nI (i + (e :: Q).length)) (nI t) dn va ev kd dl op cn wt sg vl tm nx := by
      intro hk
      have pe : dc_put (e :: Q) s (t + d) v = e :: dc_put Q s (t + d) v := by
        unfold dc_put
        rw [List.filter_cons_of_pos hk]
        rfl
      refine dc_ymove (t := t) (e := e) (by omega) (by omega) E ?_
      refine nm_r (nI_1 K.length) (nm_r (nI_1 i) ?_)
      have ll : (K ++ [e]).length = K.length + 1 := List.length_append ..
      have ih := dc_yputL hs hd ht Q (K ++ [e]) (i + 1) _ _ _ _ (dc_RY_snoc K e rfl rfl rfl rfl RK) (dc_RY_u K.length Q (i + 1) (by omega) RQ.2) (by omega) (by omega) B' (by
        intro sg' vl' tm' nx' R
        rw [List.append_assoc] at R ⊢
        have P' := P sg' vl' tm' nx'
        rw [pe] at P'
        exact P' R)
      rw [ll] at ih
      rw [fe]
      exact ih
    refine br_f (nI_ge (by omega) (by omega)) (And.intro a1 ?_)
    rw [c1, E.1, E.2.2.1, nI_add]
    refine pk_eq e.1 s (fun h1 => And.intro a1 ?_) (fun h1 => keep (decide_eq_true (Or.inl h1)))
    refine pk_le (t + d) e.2.1 (fun h2 => ?_) (fun h2 => keep (decide_eq_true (Or.inr h2)))
    have pe : dc_put (e :: Q) s (t + d) v = dc_put Q s (t + d) v := by
      unfold dc_put
      rw [List.filter_cons_of_neg]
      unfold dc_kp
      rw [decide_eq_true_iff]
      omega
    refine nm_r (nI_1 i) ?_
    have ih := dc_yputL hs hd ht Q K (i + 1) sg vl tm nx RK RQ.2 (by omega) (by omega) B' (by
      intro sg' vl' tm' nx' R
      have P' := P sg' vl' tm' nx'
      rw [pe] at P'
      exact P' R)
    rw [fe]
    exact ih
theorem dc_yput {s d : Nat} {v : Int32} {sg vl tm nx : Nat → Int32} {L : List dc_E} (hs : s < 12) (hd : d ≤ 9) (ht : t ≤ 1000000) (A : dc_AW t L) (R : dc_RY t sg vl tm nx 0 L)
    (P : ∀ sg' vl' tm' nx', dc_RY t sg' vl' tm' nx' 0 (dc_put L s (t + d) v) → post (nI pn, nI (dc_put L s (t + d) v).length, nI t, dn, va, ev, kd, dl, op, cn, wt, sg', vl', tm', nx')) : wpY_put post (nI pn, nI L.length, nI t, dn, va, ev, kd, dl, op, cn, wt, sg, vl, tm, nx) (nI s) v (nI d) := by
  refine ⟨L.length + 1, ?_⟩
  have h := dc_yputL (post := post) (pn := pn) (dn := dn) (va := va) (ev := ev) (kd := kd) (dl := dl) (op := op) (cn := cn) (wt := wt) hs hd ht L [] 0 sg vl tm nx trivial R (Nat.le_refl 0) (by have := dc_AW_len A; omega) A.1 P
  rw [Nat.zero_add] at h
  exact h
end
end
section
section
variable {pn t : Nat} {dn D : Int32} {va ev kd dl pk cn wt dv ws wv : Nat → Int32} {L : List dc_E} {post : Int32 → Prop}
theorem dc_xnuN (ht : t ≤ 1000000) (hz : ∀ u, 1 ≤ u → u ≤ 9 → ws ((t + u) % 10) = 0) (K : post (-1)) : ∀ m u, u + m = 10 → 1 ≤ u → wX_nextUnits_11 post (nI pn) (nI t) dn D va ev kd dl pk cn wt dv ws wv (m + 1) (nI u)
  | 0, u, e, _ => by
    have hu : u = 10 := by omega
    subst hu
    exact br_t (nI_le (a := 10) (b := 10) (by decide) (by decide)) K
  | m + 1, u, e, hu => by
    have hc : (nI ((t + u) % 10)).toNatClampNeg = (t + u) % 10 := nI_clamp (by omega)
    refine br_f (nI_ge (b := 10) (by omega) (by decide)) (dc_slot (by omega) (And.intro (vp_in_nI (by omega) (by decide)) (br_t (by rw [hc]; exact hz u hu (by omega)) (nm_r (nI_1 u) ?_))))
    exact dc_xnuN ht hz K m (u + 1) (by omega) (by omega)
theorem dc_xnuS {w : Nat} (ht : t ≤ 1000000) (hw : w ≤ 9) (hz : ∀ u, 1 ≤ u → u < w → ws ((t + u) % 10) = 0) (hn : ¬ ws ((t + w) % 10) = 0) (K : post (nI w)) : ∀ m u, u + m = w → 1 ≤ u → wX_nextUnits_11 post (nI pn) (nI t) dn D va ev kd dl pk cn wt dv ws wv (m + 1) (nI u)
  | 0, u, e, _ => by
    have hu : u = w := by omega
    subst hu
    have hc : (nI ((t + u) % 10)).toNatClampNeg = (t + u) % 10 := nI_clamp (by omega)
    exact br_f (nI_ge (b := 10) (by omega) (by decide)) (dc_slot (by omega) (And.intro (vp_in_nI (by omega) (by decide)) (br_f (by rw [hc]; exact hn) K)))
  | m + 1, u, e, hu => by
    have hc : (nI ((t + u) % 10)).toNatClampNeg = (t + u) % 10 := nI_clamp (by omega)
    refine br_f (nI_ge (b := 10) (by omega) (by decide)) (dc_slot (by omega) (And.intro (vp_in_nI (by omega) (by decide)) (br_t (by rw [hc]; exact hz u hu (by omega)) (nm_r (nI_1 u) ?_))))
    exact dc_xnuS ht hw hz hn K m (u + 1) (by omega) (by omega)
theorem dc_xnu0 (ht : t ≤ 1000000) (C : dc_CR t D dv ws wv []) (K : post (-1)) : wpX_nextUnits post (nI pn, nI t, dn, D, va, ev, kd, dl, pk, cn, wt, dv, ws, wv) := by
  refine br_t (dc_CR_D0 C (fun e he => by cases he)) ⟨10, dc_xnuN ht ?_ K 9 1 rfl (by omega)⟩
  intro u h1 h2
  rcases dc_CR_w0 C h2 (fun e he => by cases he) with z | z
  · omega
  · exact z
theorem dc_xnu {w : Nat} (ht : t ≤ 1000000) (A : dc_AW t L) (C : dc_CR t D dv ws wv L) (hw : w ≤ 9) (F : dc_first t L w) (K : post (nI w)) : wpX_nextUnits post (nI pn, nI t, dn, D, va, ev, kd, dl, pk, cn, wt, dv, ws, wv) := by
  by_cases h0 : w = 0
  · subst h0
    exact br_f (dc_CR_Dn A C F.1) K
  · refine br_t (dc_CR_D0 C (fun e he z => by have := F.2 e he; omega)) ⟨w - 1 + 1, dc_xnuS ht hw ?_ (dc_CR_wn A C (by omega) F.1) K (w - 1) 1 (by omega) (by omega)⟩
    intro u h1 h2
    rcases dc_CR_w0 (u := u) C (by omega) (fun e he z => by have := F.2 e he; omega) with z | z
    · omega
    · exact z
end
theorem dc_n5 {m : Nat} (h : m < 2 ^ 31) : ¬ nI m = -5 := by
  intro z
  have e := congrArg Int32.toInt z
  rw [nI_toInt h, show ((-5 : Int32)).toInt = -5 from by decide] at e
  omega
section
variable {pn t : Nat} {dn f_now : Int32} {va ev kd dl op cn wt sg vl tm nx : Nat → Int32} {post : Int32 → Prop}
theorem dc_yan0L (K : post 0) : ∀ (Q : List dc_E) (i : Nat), dc_RY t sg vl tm nx i Q → i + Q.length ≤ 120 → (∀ e, e ∈ Q → e.2.1 ≠ t) → wY_anyNext_2 post (nI pn) (nI (i + Q.length)) f_now dn va ev kd dl op cn wt sg vl tm nx (Q.length + 1) (nI i)
  | [], i, _, hi, _ => by
    have hl : ([] : List dc_E).length = 0 := rfl
    exact br_t (nI_le (Nat.le_refl i) (by omega)) K
  | e :: Q, i, R, hi, h => by
    have hl : (e :: Q).length = Q.length + 1 := rfl
    have c1 : (nI i).toNatClampNeg = i := nI_clamp (by omega)
    have fe : nI (i + (e :: Q).length) = nI (i + 1 + Q.length) := congrArg nI (by omega)
    have E : dc_ent t sg vl tm nx i e := R.1
    refine br_f (nI_ge (by omega) (by omega)) (And.intro (vp_in_nI (by omega) (by decide)) (br_t (by rw [c1, E.2.2.2, if_neg (h e (List.mem_cons_self ..))]) (nm_r (nI_1 i) ?_)))
    rw [fe]
    exact dc_yan0L K Q (i + 1) R.2 (by omega) (fun x hx => h x (List.mem_cons_of_mem _ hx))
theorem dc_yan1L (K : post 1) : ∀ (Q : List dc_E) (i : Nat), dc_RY t sg vl tm nx i Q → i + Q.length ≤ 120 → (∃ e, e ∈ Q ∧ e.2.1 = t) → wY_anyNext_2 post (nI pn) (nI (i + Q.length)) f_now dn va ev kd dl op cn wt sg vl tm nx (Q.length + 1) (nI i)
  | [], i, _, hi, h => by
    obtain ⟨e, he, _⟩ := h
    cases he
  | e :: Q, i, R, hi, h => by
    have hl : (e :: Q).length = Q.length + 1 := rfl
    have c1 : (nI i).toNatClampNeg = i := nI_clamp (by omega)
    have fe : nI (i + (e :: Q).length) = nI (i + 1 + Q.length) := congrArg nI (by omega)
    have E : dc_ent t sg vl tm nx i e := R.1
    refine br_f (nI_ge (by omega) (by omega)) (And.intro (vp_in_nI (by omega) (by decide)) ?_)
    by_cases q : e.2.1 = t
    · exact br_f (by rw [c1, E.2.2.2, if_pos q]; decide) K
    · refine br_t (by rw [c1, E.2.2.2, if_neg q]) (nm_r (nI_1 i) ?_)
      rw [fe]
      refine dc_yan1L K Q (i + 1) R.2 (by omega) ?_
      obtain ⟨x, hx, hq⟩ := h
      rcases List.mem_cons.mp hx with z | z
      · subst z
        exact absurd hq q
      · exact ⟨x, z, hq⟩
theorem dc_yntB {T : Nat} (K : post (nI T)) : ∀ (Q : List dc_E) (i m : Nat), dc_RY t sg vl tm nx i Q → i + Q.length ≤ 120 → m < 2 ^ 30 → (∀ e, e ∈ Q → e.2.1 < 2 ^ 30) → (m = T ∨ ∃ e, e ∈ Q ∧ e.2.1 = T) → T ≤ m → (∀ e, e ∈ Q → T ≤ e.2.1) →
    wY_nextTime_5 post (nI pn) (nI (i + Q.length)) f_now dn va ev kd dl op cn wt sg vl tm nx (Q.length + 1) (nI m) (nI i)
  | [], i, m, _, hi, _, _, h1, _, _ => by
    have hl : ([] : List dc_E).length = 0 := rfl
    have e : m = T := by
      rcases h1 with z | ⟨e, he, _⟩
      · exact z
      · cases he
    subst e
    exact br_t (nI_le (Nat.le_refl i) (by omega)) K
  | e :: Q, i, m, R, hi, hm, hb, h1, h2, h3 => by
    have hl : (e :: Q).length = Q.length + 1 := rfl
    have c1 : (nI i).toNatClampNeg = i := nI_clamp (by omega)
    have fe : nI (i + (e :: Q).length) = nI (i + 1 + Q.length) := congrArg nI (by omega)
    have E : dc_ent t sg vl tm nx i e := R.1
    have ce : tm (nI i).toNatClampNeg = nI e.2.1 := by rw [c1]; exact E.2.2.1
    have he := hb e (List.mem_cons_self ..)
    have h3e := h3 e (List.mem_cons_self ..)
    have a1 : vp_in (nI i) 128 := vp_in_nI (by omega) (by decide)
    refine br_f (nI_ge (by omega) (by omega)) (br_f (dc_n5 (by omega)) (And.intro a1 ?_))
    refine pk_le m e.2.1 (fun hle => nm_r (nI_1 i) ?_) (fun hlt => And.intro a1 (nm_r ce (nm_r (nI_1 i) ?_))) rfl ce
    · rw [fe]
      refine dc_yntB K Q (i + 1) m R.2 (by omega) hm (fun x hx => hb x (List.mem_cons_of_mem _ hx)) ?_ h2 (fun x hx => h3 x (List.mem_cons_of_mem _ hx))
      rcases h1 with z | ⟨x, hx, hq⟩
      · exact Or.inl z
      · rcases List.mem_cons.mp hx with z | z
        · subst z
          exact Or.inl (by omega)
        · exact Or.inr ⟨x, z, hq⟩
    · rw [fe]
      refine dc_yntB K Q (i + 1) e.2.1 R.2 (by omega) he (fun x hx => hb x (List.mem_cons_of_mem _ hx)) ?_ h3e (fun x hx => h3 x (List.mem_cons_of_mem _ hx))
      rcases h1 with z | ⟨x, hx, hq⟩
      · exact absurd z (by omega)
      · rcases List.mem_cons.mp hx with z | z
        · subst z
          exact Or.inl hq
        · exact Or.inr ⟨x, z, hq⟩
theorem dc_yan0 {L : List dc_E} {w : Nat} (A : dc_AW t L) (R : dc_RY t sg vl tm nx 0 L) (h0 : 0 < w) (F : dc_first t L w) (K : post 0) : wpY_anyNext post (nI pn, nI L.length, f_now, dn, va, ev, kd, dl, op, cn, wt, sg, vl, tm, nx) := by
  refine ⟨L.length + 1, ?_⟩
  have h := dc_yan0L (pn := pn) (dn := dn) (f_now := f_now) (va := va) (ev := ev) (kd := kd) (dl := dl) (op := op) (cn := cn) (wt := wt) K L 0 R (by have := dc_AW_len A; omega) (fun e he z => by have := F.2 e he; omega)
  rw [Nat.zero_add] at h
  exact h
theorem dc_yan1 {L : List dc_E} (A : dc_AW t L) (R : dc_RY t sg vl tm nx 0 L) (F : dc_first t L 0) (K : post 1) : wpY_anyNext post (nI pn, nI L.length, f_now, dn, va, ev, kd, dl, op, cn, wt, sg, vl, tm, nx) := by
  refine ⟨L.length + 1, ?_⟩
  have h := dc_yan1L (pn := pn) (dn := dn) (f_now := f_now) (va := va) (ev := ev) (kd := kd) (dl := dl) (op := op) (cn := cn) (wt := wt) K L 0 R (by have := dc_AW_len A; omega) F.1
  rw [Nat.zero_add] at h
  exact h
theorem dc_ynt {L : List dc_E} {w : Nat} (ht : t ≤ 1000000) (A : dc_AW t L) (R : dc_RY t sg vl tm nx 0 L) (F : dc_first t L w) (K : post (nI (t + w))) : wpY_nextTime post (nI pn, nI L.length, f_now, dn, va, ev, kd, dl, op, cn, wt, sg, vl, tm, nx) := by
  have hn := dc_AW_len A
  cases L with
  | nil =>
    obtain ⟨e, he, _⟩ := F.1
    cases he
  | cons e Q =>
    have hl : (e :: Q).length = Q.length + 1 := rfl
    refine ⟨Q.length + 1 + 1, ?_⟩
    have hb : ∀ x, x ∈ e :: Q → x.2.1 < 2 ^ 30 := fun x hx => by have := A.1 x hx; omega
    have E : dc_ent t sg vl tm nx 0 e := R.1
    refine br_f (nI_ge (a := 0) (by omega) (by omega)) (br_t rfl (And.intro (vp_in_nI (n := 0) (by decide) (by decide)) (nm_r (e' := nI e.2.1) E.2.2.1 (nm_r (nI_1 0) ?_))))
    rw [show nI (e :: Q).length = nI (0 + 1 + Q.length) from congrArg nI (by omega)]
    refine dc_yntB K Q (0 + 1) e.2.1 R.2 (by omega) (hb e (List.mem_cons_self ..)) (fun x hx => hb x (List.mem_cons_of_mem _ hx)) ?_ (F.2 e (List.mem_cons_self ..)) (fun x hx => F.2 x (List.mem_cons_of_mem _ hx))
    obtain ⟨x, hx, hq⟩ := F.1
    rcases List.mem_cons.mp hx with z | z
    · subst z
      exact Or.inl hq
    · exact Or.inr ⟨x, z, hq⟩
theorem dc_ynt0 (K : post (-5)) : wpY_nextTime post (nI pn, 0, f_now, dn, va, ev, kd, dl, op, cn, wt, sg, vl, tm, nx) := ⟨1, br_t (nI_le (a := 0) (b := 0) (by decide) (by decide)) K⟩
end
end
section
def dc_rest (T : Nat) (L : List dc_E) : List dc_E := L.filter (fun e => decide (e.2.1 ≠ T))
theorem dc_rest_mem {T : Nat} {L : List dc_E} {e : dc_E} : e ∈ dc_rest T L ↔ (e ∈ L ∧ e.2.1 ≠ T) := by
  unfold dc_rest
  rw [List.mem_filter, decide_eq_true_iff]
def dc_vs (N va : Nat → Int32) (s : Nat) : Nat → Int32 := fun i => if i < s then N i else va i
def dc_es (N va ev : Nat → Int32) (s : Nat) : Nat → Int32 := fun i => if i < s then (if N i = va i then ev i else ev i + 1) else ev i
def dc_ch (N va : Nat → Int32) : Nat → Int32
  | 0 => 0
  | s + 1 => dc_ch N va s ||| (if N s = va s then 0 else (1 : Int32) <<< (nI s &&& 31))
section
variable {N va ev : Nat → Int32} {s : Nat}
theorem dc_vs_at : dc_vs N va s s = va s := if_neg (Nat.lt_irrefl s)
theorem dc_es_at : dc_es N va ev s s = ev s := if_neg (Nat.lt_irrefl s)
theorem dc_vs_0 : dc_vs N va 0 = va := funext (fun i => if_neg (Nat.not_lt_zero i))
theorem dc_es_0 : dc_es N va ev 0 = ev := funext (fun i => if_neg (Nat.not_lt_zero i))
theorem dc_vs_e (h : N s = va s) : dc_vs N va (s + 1) = dc_vs N va s := by
  funext i
  unfold dc_vs
  by_cases q : i = s
  · subst q
    rw [if_pos (by omega), if_neg (by omega), h]
  · by_cases l : i < s
    · rw [if_pos (by omega), if_pos l]
    · rw [if_neg (by omega), if_neg l]
theorem dc_vs_u : dc_vs N va (s + 1) = upd (dc_vs N va s) s (N s) := by
  funext i
  by_cases q : i = s
  · subst q
    rw [pk_us]
    exact if_pos (by omega)
  · rw [pk_un q]
    unfold dc_vs
    by_cases l : i < s
    · rw [if_pos (by omega), if_pos l]
    · rw [if_neg (by omega), if_neg l]
theorem dc_es_e (h : N s = va s) : dc_es N va ev (s + 1) = dc_es N va ev s := by
  funext i
  unfold dc_es
  by_cases q : i = s
  · subst q
    rw [if_pos (Nat.lt_succ_self i), if_pos h, if_neg (Nat.lt_irrefl i)]
  · by_cases l : i < s
    · rw [if_pos (by omega), if_pos l]
    · rw [if_neg (by omega), if_neg l]
theorem dc_es_u (h : ¬ N s = va s) : dc_es N va ev (s + 1) = upd (dc_es N va ev s) s (dc_es N va ev s s + 1) := by
  rw [dc_es_at]
  funext i
  by_cases q : i = s
  · subst q
    rw [pk_us]
    unfold dc_es
    rw [if_pos (by omega), if_neg h]
  · rw [pk_un q]
    unfold dc_es
    by_cases l : i < s
    · rw [if_pos (by omega), if_pos l]
    · rw [if_neg (by omega), if_neg l]
theorem dc_ch_e (h : N s = va s) : dc_ch N va (s + 1) = dc_ch N va s ||| 0 := by
  show dc_ch N va s ||| (if N s = va s then 0 else (1 : Int32) <<< (nI s &&& 31)) = _
  rw [if_pos h]
theorem dc_or0 (x : Int32) : x ||| 0 = x := b_ext (fun i _ => by rw [b_or, b_0, Bool.or_false])
theorem dc_ch_u (h : ¬ N s = va s) : dc_ch N va (s + 1) = dc_ch N va s ||| ((1 : Int32) <<< (nI s &&& 31)) := by
  show dc_ch N va s ||| (if N s = va s then 0 else (1 : Int32) <<< (nI s &&& 31)) = _
  rw [if_neg h]
theorem dc_ch_b (i : Nat) : ∀ s, s ≤ 32 → bt (dc_ch N va s) i = decide (i < s ∧ ¬ N i = va i)
  | 0, _ => by
    show bt 0 i = _
    rw [b_0, decide_eq_false (by omega)]
  | s + 1, hs => by
    by_cases h : N s = va s
    · rw [dc_ch_e h, dc_or0, dc_ch_b i s (by omega)]
      refine decide_eq_decide.mpr ⟨fun z => ⟨by omega, z.2⟩, fun z => ⟨?_, z.2⟩⟩
      have : i ≠ s := by
        intro q
        subst q
        exact z.2 h
      omega
    · rw [dc_ch_u h, dc_set _ (by omega), dc_ch_b i s (by omega)]
      by_cases q : i = s
      · subst q
        rw [decide_eq_true (p := i = i) rfl, Bool.or_true, decide_eq_true ⟨by omega, h⟩]
      · rw [decide_eq_false q, Bool.or_false]
        exact decide_eq_decide.mpr ⟨fun z => ⟨by omega, z.2⟩, fun z => ⟨by omega, z.2⟩⟩
end
section
variable {t w : Nat} {D : Int32} {dv ws wv : Nat → Int32} {L : List dc_E}
theorem dc_AW_rest (A : dc_AW t L) (F : dc_first t L w) : dc_AW (t + w) (dc_rest (t + w) L) := by
  refine ⟨?_, A.2.filter _⟩
  intro e he
  rw [dc_rest_mem] at he
  have h1 := A.1 e he.1
  have h2 := F.2 e he.1
  exact ⟨h1.1, h2, by omega⟩
theorem dc_CR_take0 (C : dc_CR t D dv ws wv L) : dc_CR (t + 0) 0 dv ws wv (dc_rest (t + 0) L) := by
  rw [Nat.add_zero]
  refine ⟨fun i _ => b_0 i, C.2.1, C.2.2.1, ?_⟩
  intro s T v hs h1 h2
  rw [dc_rest_mem]
  by_cases q : T = t
  · subst q
    rw [dc_Pd_0, b_0]
    exact ⟨fun z => absurd rfl z.2, fun z => absurd z.1 (by decide)⟩
  · rw [C.2.2.2 s T v hs h1 h2, dc_Pd_n q, dc_Pd_n q]
    exact ⟨fun z => z.1, fun z => ⟨z, q⟩⟩
theorem dc_CR_taken (A : dc_AW t L) (C : dc_CR t D dv ws wv L) (hw : w ≤ 9) (h0 : 0 < w) (F : dc_first t L w) : dc_CR (t + w) D dv (upd ws ((t + w) % 10) 0) wv (dc_rest (t + w) L) := by
  have hD : D = 0 := dc_CR_D0 C (fun e he z => by have := F.2 e he; omega)
  refine ⟨C.1, ?_, ?_, ?_⟩
  · intro j i hi
    by_cases q : j = (t + w) % 10
    · subst q
      rw [pk_us, b_0]
    · rw [pk_un q]
      exact C.2.1 j i hi
  · intro i
    rw [pk_us, b_0]
  intro s T v hs h1 h2
  rw [dc_rest_mem]
  by_cases q : T = t + w
  · subst q
    rw [dc_Pd_0, hD, b_0]
    exact ⟨fun z => absurd rfl z.2, fun z => absurd z.1 (by decide)⟩
  · rw [dc_Pd_n q, pk_un (by omega)]
    by_cases l : T ≤ t + 9
    · rw [C.2.2.2 s T v hs (by omega) l, dc_Pd_n (by omega)]
      exact ⟨fun z => z.1, fun z => ⟨z, q⟩⟩
    · constructor
      · intro z
        have := A.1 _ z.1
        exact absurd this.2.2 l
      · intro z
        exfalso
        obtain ⟨T', hT⟩ : ∃ T', T = T' + 10 := ⟨T - 10, by omega⟩
        subst hT
        rw [show (T' + 10) % 10 = T' % 10 from by omega] at z
        by_cases q2 : T' = t
        · subst q2
          rw [C.2.2.1 s] at z
          exact absurd z.1 (by decide)
        · have m := (C.2.2.2 s T' v hs (by omega) (by omega)).mpr ((dc_Pd_n q2).mpr z)
          have := F.2 _ m
          have e : (s, T', v).2.1 = T' := rfl
          omega
end
section
variable {pn t : Nat} {dn D : Int32} {va ev kd dl pk cn wt dv ws wv : Nat → Int32} {post : Int32 → SX → Prop}
theorem dc_xup {s : Nat} {v tt : Int32} (hs : s < 12) (h1 : va s = v → post 0 (nI pn, tt, dn, D, va, ev, kd, dl, pk, cn, wt, dv, ws, wv)) (h2 : ¬ va s = v → post 1 (nI pn, tt, dn, D, upd va s v, upd ev s (ev s + 1), kd, dl, pk, cn, wt, dv, ws, wv)) : wpX_update post (nI pn, tt, dn, D, va, ev, kd, dl, pk, cn, wt, dv, ws, wv) (nI s) v := by
  have hi : vp_in (nI s) 12 := vp_in_nI hs (by decide)
  have hc : (nI s).toNatClampNeg = s := nI_clamp (by omega)
  refine And.intro hi (br_c (fun h => h1 (by rw [hc] at h; exact h)) (fun h => ?_))
  refine And.intro hi (nm_r (e' := upd va s v) (by rw [hc]) (And.intro hi (And.intro hi (nm_r (e' := upd ev s (ev s + 1)) (by rw [hc]) ?_))))
  exact h2 (by rw [hc] at h; exact h)
theorem dc_xcb {s : Nat} {v tt : Int32} (hs : s < 12) (h1 : va s = v → post 0 (nI pn, tt, dn, D, va, ev, kd, dl, pk, cn, wt, dv, ws, wv)) (h2 : ¬ va s = v → post ((1 : Int32) <<< (nI s &&& 31)) (nI pn, tt, dn, D, upd va s v, upd ev s (ev s + 1), kd, dl, pk, cn, wt, dv, ws, wv)) : wpX_changeBit post (nI pn, tt, dn, D, va, ev, kd, dl, pk, cn, wt, dv, ws, wv) (nI s) v := by
  unfold wpX_changeBit
  dsimp only
  refine dc_xup hs (fun h => ?_) (fun h => ?_)
  · exact br_t rfl (h1 h)
  · exact br_f (by decide) (h2 h)
theorem dc_xtk94 {N : Nat → Int32} {r : Nat} {S tt : Int32} (hr : r < 10) (hN : ∀ s, s < 12 → bt S s = true → wv (r * 12 + s) = N s) (hM : ∀ s, s < 12 → ¬ bt S s = true → N s = va s)
    (K : post (dc_ch N va 12) (nI pn, tt, dn, D, dc_vs N va 12, dc_es N va ev 12, kd, dl, pk, cn, wt, dv, ws, wv)) : ∀ m s, s + m = 12 → wX_takeChanges_94 post (nI r) S (m + 1) (dc_ch N va s) (nI s) (nI pn) tt dn D (dc_vs N va s) (dc_es N va ev s) kd dl pk cn wt dv ws wv
  | 0, s, e => by
    have hs : s = 12 := by omega
    subst hs
    exact br_t (nI_le (a := 12) (b := 12) (by decide) (by decide)) K
  | m + 1, s, e => by
    have hs : s < 12 := by omega
    have hx : nI r * 12 + nI s = nI (r * 12 + s) := by
      rw [← nI_add, ← pk_mul]
      rfl
    have hv : vp_in (nI r * 12 + nI s) 120 := by
      rw [hx]
      exact vp_in_nI (by omega) (by decide)
    refine br_f (nI_ge (b := 12) (by omega) (by decide)) ?_
    by_cases hb : bt S s = true
    · refine br_t ((dc_tst S (by omega)).mpr hb) (And.intro hv ?_)
      rw [hx, nI_clamp (by omega), hN s hs hb]
      refine dc_xcb hs (fun h => ?_) (fun h => ?_)
      · rw [dc_vs_at] at h
        refine nm_r (dc_ch_e h.symm).symm (nm_r (nI_1 s) ?_)
        have ih := dc_xtk94 hr hN hM K m (s + 1) (by omega)
        rw [dc_vs_e h.symm, dc_es_e h.symm] at ih
        exact ih
      · rw [dc_vs_at] at h
        have h' : ¬ N s = va s := fun z => h z.symm
        refine nm_r (dc_ch_u h').symm (nm_r (nI_1 s) ?_)
        have ih := dc_xtk94 hr hN hM K m (s + 1) (by omega)
        rw [dc_vs_u, dc_es_u h'] at ih
        exact ih
    · have h := hM s hs hb
      refine br_f (fun z => hb ((dc_tst S (by omega)).mp z)) (nm_r (nI_1 s) ?_)
      have ih := dc_xtk94 hr hN hM K m (s + 1) (by omega)
      rw [dc_vs_e h, dc_es_e h, dc_ch_e h, dc_or0] at ih
      exact ih
theorem dc_xtk19 {N : Nat → Int32} {S tt : Int32} (hN : ∀ s, s < 12 → bt S s = true → dv s = N s) (hM : ∀ s, s < 12 → ¬ bt S s = true → N s = va s)
    (K : post (dc_ch N va 12) (nI pn, tt, dn, D, dc_vs N va 12, dc_es N va ev 12, kd, dl, pk, cn, wt, dv, ws, wv)) : ∀ m s, s + m = 12 → wX_takeChanges_19 post S (m + 1) (dc_ch N va s) (nI s) (nI pn) tt dn D (dc_vs N va s) (dc_es N va ev s) kd dl pk cn wt dv ws wv
  | 0, s, e => by
    have hs : s = 12 := by omega
    subst hs
    exact br_t (nI_le (a := 12) (b := 12) (by decide) (by decide)) K
  | m + 1, s, e => by
    have hs : s < 12 := by omega
    refine br_f (nI_ge (b := 12) (by omega) (by decide)) ?_
    by_cases hb : bt S s = true
    · refine br_t ((dc_tst S (by omega)).mpr hb) (And.intro (vp_in_nI hs (by decide)) ?_)
      rw [nI_clamp (by omega), hN s hs hb]
      refine dc_xcb hs (fun h => ?_) (fun h => ?_)
      · rw [dc_vs_at] at h
        refine nm_r (dc_ch_e h.symm).symm (nm_r (nI_1 s) ?_)
        have ih := dc_xtk19 hN hM K m (s + 1) (by omega)
        rw [dc_vs_e h.symm, dc_es_e h.symm] at ih
        exact ih
      · rw [dc_vs_at] at h
        have h' : ¬ N s = va s := fun z => h z.symm
        refine nm_r (dc_ch_u h').symm (nm_r (nI_1 s) ?_)
        have ih := dc_xtk19 hN hM K m (s + 1) (by omega)
        rw [dc_vs_u, dc_es_u h'] at ih
        exact ih
    · have h := hM s hs hb
      refine br_f (fun z => hb ((dc_tst S (by omega)).mp z)) (nm_r (nI_1 s) ?_)
      have ih := dc_xtk19 hN hM K m (s + 1) (by omega)
      rw [dc_vs_e h, dc_es_e h, dc_ch_e h, dc_or0] at ih
      exact ih
theorem dc_xtake {N : Nat → Int32} {w : Nat} {L : List dc_E} (ht : t ≤ 1000000) (A : dc_AW t L) (C : dc_CR t D dv ws wv L) (hw : w ≤ 9) (F : dc_first t L w)
    (hN : ∀ s v, (s, t + w, v) ∈ L → N s = v) (hM : ∀ s, (∀ v, ¬ (s, t + w, v) ∈ L) → N s = va s)
    (K : ∀ D' ws', dc_CR (t + w) D' dv ws' wv (dc_rest (t + w) L) → post (dc_ch N va 12) (nI pn, nI (t + w), dn, D', dc_vs N va 12, dc_es N va ev 12, kd, dl, pk, cn, wt, dv, ws', wv)) : wpX_takeChanges post (nI pn, nI t, dn, D, va, ev, kd, dl, pk, cn, wt, dv, ws, wv) (nI w) := by
  by_cases h0 : w = 0
  · subst h0
    refine br_t rfl ⟨13, ?_⟩
    have h := dc_xtk19 (post := post) (pn := pn) (tt := nI t) (dn := dn) (D := 0) (kd := kd) (dl := dl) (pk := pk) (cn := cn) (wt := wt) (ws := ws) (wv := wv) (S := D) (dv := dv) (N := N) (va := va) (ev := ev) ?_ ?_ (K 0 ws (dc_CR_take0 C)) 12 0 rfl
    · rw [dc_vs_0, dc_es_0] at h
      exact h
    · intro s hs hb
      exact (hN s (dv s) ((C.2.2.2 s (t + 0) (dv s) hs (by omega) (by omega)).mpr (dc_Pd_0.mpr ⟨hb, rfl⟩))).symm
    · intro s hs hb
      refine hM s (fun v m => hb ?_)
      exact (dc_Pd_0.mp ((C.2.2.2 s t v hs (by omega) (by omega)).mp m)).1
  · have hc : (nI ((t + w + 0) % 10)).toNatClampNeg = (t + w) % 10 := nI_clamp (by omega)
    have hi : vp_in (nI ((t + w + 0) % 10)) 10 := vp_in_nI (by omega) (by decide)
    refine br_f (nI_ne0 (by omega) (by omega)) (nm_r (nI_add t w) (dc_slot (t := t + w) (u := 0) (by omega) ?_))
    refine And.intro hi (nm_r (e' := ws ((t + w) % 10)) (by rw [hc]) (And.intro hi (nm_r (e' := upd ws ((t + w) % 10) 0) (by rw [hc]) ⟨13, ?_⟩)))
    have h := dc_xtk94 (post := post) (pn := pn) (tt := nI (t + w)) (dn := dn) (D := D) (kd := kd) (dl := dl) (pk := pk) (cn := cn) (wt := wt) (ws := upd ws ((t + w) % 10) 0) (wv := wv) (S := ws ((t + w) % 10)) (r := (t + w) % 10) (dv := dv) (N := N) (va := va) (ev := ev) (by omega) ?_ ?_ (K D _ (dc_CR_taken A C hw (by omega) F)) 12 0 rfl
    · rw [dc_vs_0, dc_es_0] at h
      exact h
    · intro s hs hb
      exact (hN s _ ((C.2.2.2 s (t + w) _ hs (by omega) (by omega)).mpr ((dc_Pd_n (by omega)).mpr ⟨hb, rfl⟩))).symm
    · intro s hs hb
      refine hM s (fun v m => hb ?_)
      exact ((dc_Pd_n (by omega)).mp ((C.2.2.2 s (t + w) v hs (by omega) (by omega)).mp m)).1
end
def dc_fold (T : Nat) : List dc_E → (Nat → Int32) → Nat → Int32
  | [], f => f
  | e :: L, f => dc_fold T L (if e.2.1 = T then upd f e.1 e.2.2 else f)
theorem dc_fold_n {T s : Nat} : ∀ (L : List dc_E) (f : Nat → Int32), (∀ v, ¬ (s, T, v) ∈ L) → dc_fold T L f s = f s
  | [], _, _ => rfl
  | e :: L, f, h => by
    obtain ⟨s', T', v'⟩ := e
    have ih := dc_fold_n L (if T' = T then upd f s' v' else f) (fun v m => h v (List.mem_cons_of_mem _ m))
    refine ih.trans ?_
    by_cases q : T' = T
    · subst q
      rw [if_pos rfl]
      refine pk_un ?_
      intro z
      subst z
      exact h v' (List.mem_cons_self ..)
    · rw [if_neg q]
theorem dc_fold_y {T s : Nat} {v : Int32} : ∀ (L : List dc_E) (f : Nat → Int32), L.Pairwise (fun a b => ¬ (a.1 = b.1 ∧ a.2.1 = b.2.1)) → (s, T, v) ∈ L → dc_fold T L f s = v
  | [], _, _, h => by cases h
  | e :: L, f, P, h => by
    obtain ⟨P1, P2⟩ := List.pairwise_cons.mp P
    rcases List.mem_cons.mp h with z | z
    · subst z
      refine (dc_fold_n L _ (fun v' m => P1 _ m ⟨rfl, rfl⟩)).trans ?_
      rw [if_pos rfl]
      exact pk_us
    · exact dc_fold_y L _ P2 z
def dc_I (va ev va1 ev1 : Nat → Int32) (m : Int32) : Prop := (∀ j, ev1 j = if va1 j = va j then ev j else ev j + 1) ∧ (∀ j, bt m j = decide (¬ va1 j = va j))
theorem dc_I_0 (va ev : Nat → Int32) : dc_I va ev va ev 0 := ⟨fun j => (if_pos rfl).symm, fun j => by rw [b_0, decide_eq_false (fun z => z rfl)]⟩
theorem dc_I_s {va ev va1 ev1 : Nat → Int32} {m : Int32} {s : Nat} {v : Int32} (hs : s < 32) (h : dc_I va ev va1 ev1 m) (hu : va1 s = va s) (hn : ¬ va1 s = v) : dc_I va ev (upd va1 s v) (upd ev1 s (ev1 s + 1)) (m ||| ((1 : Int32) <<< (nI s &&& 31))) := by
  refine ⟨fun j => ?_, fun j => ?_⟩
  · by_cases q : j = s
    · subst q
      rw [pk_us, pk_us, h.1 j, if_pos hu, if_neg]
      intro z
      exact hn (hu.trans z.symm)
    · rw [pk_un q, pk_un q]
      exact h.1 j
  · rw [dc_set _ hs, h.2 j]
    by_cases q : j = s
    · subst q
      rw [pk_us, decide_eq_true (p := j = j) rfl, Bool.or_true, decide_eq_true]
      intro z
      exact hn (hu.trans z.symm)
    · rw [pk_un q, decide_eq_false q, Bool.or_false]
section
variable {pn t T : Nat} {dn : Int32} {va ev kd dl op cn wt : Nat → Int32} {post : Int32 → SY → Prop}
theorem dc_yupL {x1 : Int32} (hx : x1 = 0 ∨ (x1 = 1 ∧ T = t)) (hT : T ≤ 2000000) (ht : t ≤ 1000000) : ∀ (Q K : List dc_E) (i : Nat) (m : Int32) (va1 ev1 sg vl tm nx : Nat → Int32), dc_RY t sg vl tm nx 0 K → dc_RY t sg vl tm nx i Q → K.length ≤ i → i + Q.length ≤ 120 →
    (∀ e, e ∈ Q → e.1 < 12 ∧ t ≤ e.2.1 ∧ e.2.1 ≤ t + 9) → Q.Pairwise (fun a b => ¬ (a.1 = b.1 ∧ a.2.1 = b.2.1)) → dc_I va ev va1 ev1 m → (∀ e, e ∈ Q → e.2.1 = T → va1 e.1 = va e.1) →
    (∀ va2 ev2 m2 sg' vl' tm' nx', va2 = dc_fold T Q va1 → dc_I va ev va2 ev2 m2 → dc_RY t sg' vl' tm' nx' 0 (K ++ dc_rest T Q) → post m2 (nI pn, nI (K ++ dc_rest T Q).length, nI T, dn, va2, ev2, kd, dl, op, cn, wt, sg', vl', tm', nx')) →
    wY_update_7 post x1 (Q.length + 1) m (nI K.length) (nI i) (nI pn) (nI (i + Q.length)) (nI T) dn va1 ev1 kd dl op cn wt sg vl tm nx
  | [], K, i, m, va1, ev1, sg, vl, tm, nx, RK, _, hK, hi, _, _, HI, _, P => by
    have hl : ([] : List dc_E).length = 0 := rfl
    have ll : nI (K ++ dc_rest T []).length = nI K.length := congrArg nI (List.length_append ..)
    have P' := P va1 ev1 m sg vl tm nx rfl HI (by
      show dc_RY t sg vl tm nx 0 (K ++ [])
      rw [List.append_nil]
      exact RK)
    rw [ll] at P'
    exact br_t (nI_le (Nat.le_refl i) (by omega)) P'
  | e :: Q, K, i, m, va1, ev1, sg, vl, tm, nx, RK, RQ, hK, hi, B, W, HI, U, P => by
    have hl : (e :: Q).length = Q.length + 1 := rfl
    have he := B e (List.mem_cons_self ..)
    have B' : ∀ x, x ∈ Q → x.1 < 12 ∧ t ≤ x.2.1 ∧ x.2.1 ≤ t + 9 := fun x hx => B x (List.mem_cons_of_mem _ hx)
    obtain ⟨W1, W2⟩ := List.pairwise_cons.mp W
    have a1 : vp_in (nI i) 128 := vp_in_nI (by omega) (by decide)
    have c1 : (nI i).toNatClampNeg = i := nI_clamp (by omega)
    have E : dc_ent t sg vl tm nx i e := RQ.1
    have fe : nI (i + (e :: Q).length) = nI (i + 1 + Q.length) := congrArg nI (by omega)
    have main : wY_update_49 post (wY_update_7 post x1 (Q.length + 1)) x1 m (nI K.length) (nI i) (if e.2.1 = T then 1 else 0) (nI pn) (nI (i + (e :: Q).length)) (nI T) dn va1 ev1 kd dl op cn wt sg vl tm nx := by
      by_cases q : e.2.1 = T
      · have pe : dc_rest T (e :: Q) = dc_rest T Q := by
          unfold dc_rest
          rw [List.filter_cons_of_neg]
          rw [decide_eq_true_iff]
          exact fun z => z q
        have pf : dc_fold T (e :: Q) va1 = dc_fold T Q (upd va1 e.1 e.2.2) := by
          show dc_fold T Q (if e.2.1 = T then upd va1 e.1 e.2.2 else va1) = _
          rw [if_pos q]
        rw [if_pos q]
        have cs : sg (nI i).toNatClampNeg = nI e.1 := by rw [c1]; exact E.1
        have cv : vl (nI i).toNatClampNeg = e.2.2 := by rw [c1]; exact E.2.1
        have c2 : (nI e.1).toNatClampNeg = e.1 := nI_clamp (by omega)
        have a2 : vp_in (nI e.1) 12 := vp_in_nI he.1 (by decide)
        have a3 : vp_in (sg (nI i).toNatClampNeg) 12 := by rw [cs]; exact a2
        have hu := U e (List.mem_cons_self ..) q
        refine br_f (by decide) (And.intro a1 (And.intro a3 (And.intro a1 ?_)))
        by_cases hv : va1 e.1 = e.2.2
        · refine br_t (by rw [cs, cv, c2]; exact hv) (br_f (by decide) (nm_r (nI_1 i) ?_))
          have uv : upd va1 e.1 e.2.2 = va1 := by
            funext j
            by_cases z : j = e.1
            · subst z
              rw [pk_us]
              exact hv.symm
            · exact pk_un z
          rw [uv] at pf
          have ih := dc_yupL hx hT ht Q K (i + 1) m va1 ev1 sg vl tm nx RK RQ.2 (by omega) (by omega) B' W2 HI (fun x hx' => U x (List.mem_cons_of_mem _ hx')) (by
            intro va2 ev2 m2 sg' vl' tm' nx' e1 e2 e3
            have P' := P va2 ev2 m2 sg' vl' tm' nx' (by rw [pf]; exact e1) e2
            rw [pe] at P'
            exact P' e3)
          rw [fe]
          exact ih
        · refine br_f (by rw [cs, cv, c2]; exact hv) ?_
          refine And.intro a1 (And.intro a1 (And.intro a3 (nm_r (e' := upd va1 e.1 e.2.2) (by rw [cs, cv, c2]) ?_)))
          refine And.intro a1 (And.intro a3 (And.intro a3 (nm_r (e' := upd ev1 e.1 (ev1 e.1 + 1)) (by rw [cs, c2]) ?_)))
          refine And.intro a1 (nm_r (e' := m ||| ((1 : Int32) <<< (nI e.1 &&& 31))) (by rw [cs]) ?_)
          refine br_f (by decide) (nm_r (nI_1 i) ?_)
          have ih := dc_yupL hx hT ht Q K (i + 1) _ (upd va1 e.1 e.2.2) (upd ev1 e.1 (ev1 e.1 + 1)) sg vl tm nx RK RQ.2 (by omega) (by omega) B' W2 (dc_I_s (by omega) HI hu hv) (by
            intro x hx' hq
            rw [pk_un (fun z => W1 x hx' ⟨z.symm, q.trans hq.symm⟩)]
            exact U x (List.mem_cons_of_mem _ hx') hq) (by
            intro va2 ev2 m2 sg' vl' tm' nx' e1 e2 e3
            have P' := P va2 ev2 m2 sg' vl' tm' nx' (by rw [pf]; exact e1) e2
            rw [pe] at P'
            exact P' e3)
          rw [fe]
          exact ih
      · have pe : dc_rest T (e :: Q) = e :: dc_rest T Q := by
          unfold dc_rest
          rw [List.filter_cons_of_pos]
          rw [decide_eq_true_iff]
          exact q
        have pf : dc_fold T (e :: Q) va1 = dc_fold T Q va1 := by
          show dc_fold T Q (if e.2.1 = T then upd va1 e.1 e.2.2 else va1) = _
          rw [if_neg q]
        rw [if_neg q]
        refine br_t rfl (br_t rfl (dc_ymove (t := t) (e := e) (by omega) (by omega) E ?_))
        refine nm_r (nI_1 K.length) (nm_r (nI_1 i) ?_)
        have ll : (K ++ [e]).length = K.length + 1 := List.length_append ..
        have ih := dc_yupL hx hT ht Q (K ++ [e]) (i + 1) m va1 ev1 _ _ _ _ (dc_RY_snoc K e rfl rfl rfl rfl RK) (dc_RY_u K.length Q (i + 1) (by omega) RQ.2) (by omega) (by omega) B' W2 HI (fun x hx' => U x (List.mem_cons_of_mem _ hx')) (by
          intro va2 ev2 m2 sg' vl' tm' nx' e1 e2 e3
          rw [List.append_assoc] at e3 ⊢
          have P' := P va2 ev2 m2 sg' vl' tm' nx' (by rw [pf]; exact e1) e2
          rw [pe] at P'
          exact P' e3)
        rw [ll] at ih
        rw [fe]
        exact ih
    refine br_f (nI_ge (by omega) (by omega)) ?_
    rcases hx with h | ⟨h, hTt⟩
    · refine br_t h (And.intro a1 ?_)
      have ce : tm (nI i).toNatClampNeg = nI e.2.1 := by rw [c1]; exact E.2.2.1
      refine pk_eq e.2.1 T (fun q => ?_) (fun q => ?_) ce rfl
      · rw [if_pos q] at main
        exact main
      · rw [if_neg q] at main
        exact main
    · refine br_f (by rw [h]; decide) (And.intro a1 ?_)
      have ce : nx (nI i).toNatClampNeg = if e.2.1 = T then 1 else 0 := by rw [c1, hTt]; exact E.2.2.2
      rw [ce]
      exact main
theorem dc_I_fin {L : List dc_E} {va2 ev2 : Nat → Int32} {m2 : Int32} (A : ∀ e, e ∈ L → e.1 < 12) (e1 : va2 = dc_fold T L va) (e2 : dc_I va ev va2 ev2 m2) :
    m2 = dc_ch (dc_fold T L va) va 12 ∧ va2 = dc_vs (dc_fold T L va) va 12 ∧ ev2 = dc_es (dc_fold T L va) va ev 12 := by
  have big : ∀ j, ¬ j < 12 → dc_fold T L va j = va j := fun j hj => dc_fold_n L va (fun v m => hj (A _ m))
  subst e1
  refine ⟨?_, ?_, ?_⟩
  · refine b_ext (fun i _ => ?_)
    rw [e2.2 i, dc_ch_b i 12 (by decide)]
    refine decide_eq_decide.mpr ⟨fun z => ⟨?_, z⟩, fun z => z.2⟩
    by_cases l : i < 12
    · exact l
    · exact absurd (big i l) z
  · funext j
    unfold dc_vs
    by_cases l : j < 12
    · rw [if_pos l]
    · rw [if_neg l]
      exact big j l
  · funext j
    rw [e2.1 j]
    unfold dc_es
    by_cases l : j < 12
    · rw [if_pos l]
    · rw [if_neg l, if_pos (big j l)]
theorem dc_yup {L : List dc_E} {w : Nat} {sg vl tm nx : Nat → Int32} {x1 : Int32} (hx : x1 = 0 ∨ (x1 = 1 ∧ w = 0)) (hw : w ≤ 9) (ht : t ≤ 1000000) (A : dc_AW t L) (F : dc_first t L w) (R : dc_RY t sg vl tm nx 0 L)
    (P : ∀ sg' vl' tm' nx', dc_RY (t + w) sg' vl' tm' nx' 0 (dc_rest (t + w) L) → post (dc_ch (dc_fold (t + w) L va) va 12) (nI pn, nI (dc_rest (t + w) L).length, nI (t + w), dn, dc_vs (dc_fold (t + w) L va) va 12, dc_es (dc_fold (t + w) L va) va ev 12, kd, dl, op, cn, wt, sg', vl', tm', nx')) :
    wpY_update post (nI pn, nI L.length, nI (t + w), dn, va, ev, kd, dl, op, cn, wt, sg, vl, tm, nx) x1 := by
  refine ⟨L.length + 1, ?_⟩
  have h := dc_yupL (post := post) (pn := pn) (dn := dn) (va := va) (ev := ev) (kd := kd) (dl := dl) (op := op) (cn := cn) (wt := wt) (T := t + w) (t := t) (x1 := x1) (hx.imp id (fun z => ⟨z.1, by have := z.2; omega⟩)) (by omega) ht L [] 0 0 va ev sg vl tm nx trivial R (Nat.le_refl 0) (by have := dc_AW_len A; omega) A.1 A.2 (dc_I_0 va ev) (fun _ _ _ => rfl) (by
    intro va2 ev2 m2 sg' vl' tm' nx' e1 e2 e3
    obtain ⟨q1, q2, q3⟩ := dc_I_fin (fun e he => (A.1 e he).1) e1 e2
    have e3' : dc_RY t sg' vl' tm' nx' 0 (dc_rest (t + w) L) := e3
    have P' := P sg' vl' tm' nx' (dc_RY_t _ 0 (by
      intro e he
      rw [dc_rest_mem] at he
      have := F.2 e he.1
      omega) e3')
    rw [← q1, ← q2, ← q3] at P'
    exact P')
  rw [Nat.zero_add] at h
  exact h
end
end
section
theorem dc_sig (x : Int32) : (∃ s : Nat, s < 12 ∧ x = nI s) ∨ (∀ s : Nat, s < 12 → ¬ x = nI s) := by
  by_cases h : ∃ s : Nat, s < 12 ∧ x = nI s
  · exact Or.inl h
  · exact Or.inr (fun s hs e => h ⟨s, hs, e⟩)
theorem dc_sigo {x : Int32} (h : ∀ s : Nat, s < 12 → ¬ x = nI s) : x < 0 ∨ (¬ x < 0 ∧ ¬ x < 12 ∧ 12 ≤ x) := by
  rcases pk_ix x (n := 12) (by decide) with z | z | ⟨j, hj, e⟩
  · exact Or.inl z
  · have z' : (12 : Int32) ≤ x := z
    refine Or.inr ⟨?_, Int32.not_lt.mpr z', z'⟩
    exact Int32.not_lt.mpr (Int32.le_trans (by decide) z')
  · exact absurd e (h j hj)
theorem dc_bad0 {post : Int32 → Prop} {s : Nat} (hs : s < 12) (h : post 0) : wpX_bad post (nI s) := br_f (nI_pos (by omega)) (br_t (nI_lt (b := 12) hs (by decide)) h)
theorem dc_bad1 {post : Int32 → Prop} {x : Int32} (hx : ∀ s : Nat, s < 12 → ¬ x = nI s) (h : post 1) : wpX_bad post x := by
  rcases dc_sigo hx with z | ⟨z1, z2, _⟩
  · exact br_t z h
  · exact br_f z1 (br_f z2 h)
section
variable {pn' dn c f_now : Int32} {va ev kd dl op cn wt sg vl tm nx : Nat → Int32} {post : Int32 → Prop}
theorem dc_isg1 {s : Nat} (hs : s < 12) (h : post 1) : wpY_isSignal post (pn', c, f_now, dn, va, ev, kd, dl, op, cn, wt, sg, vl, tm, nx) (nI s) := br_f (nI_pos (by omega)) (br_f (nI_ge (b := 12) hs (by decide)) h)
theorem dc_isg0 {x : Int32} (hx : ∀ s : Nat, s < 12 → ¬ x = nI s) (h : post 0) : wpY_isSignal post (pn', c, f_now, dn, va, ev, kd, dl, op, cn, wt, sg, vl, tm, nx) x := by
  rcases dc_sigo hx with z | ⟨z1, _, z2⟩
  · exact br_t z h
  · exact br_f z1 (br_t z2 h)
end
section
variable {pn t : Nat} {dn D : Int32} {va ev kd dl pk cn wt dv ws wv : Nat → Int32} {L : List dc_E} {post : Int32 → Prop}
theorem dc_xpenL {a : Nat} (K : post (nI (a + dc_sum (fun j => dc_cnt (bt (ws j)) 12) 10))) : ∀ m i, i + m = 10 → wX_pending_10 post (nI pn) (nI t) dn D va ev kd dl pk cn wt dv ws wv (m + 1) (nI (a + dc_sum (fun j => dc_cnt (bt (ws j)) 12) i)) (nI i)
  | 0, i, e => by
    have hi : i = 10 := by omega
    subst hi
    exact br_t (nI_le (a := 10) (b := 10) (by decide) (by decide)) K
  | m + 1, i, e => by
    have hc : (nI i).toNatClampNeg = i := nI_clamp (by omega)
    refine br_f (nI_ge (b := 10) (by omega) (by decide)) (And.intro (vp_in_nI (by omega) (by decide)) (dc_bits ?_))
    refine nm_r (e' := nI (a + dc_sum (fun j => dc_cnt (bt (ws j)) 12) (i + 1))) ?_ (nm_r (nI_1 i) (dc_xpenL K m (i + 1) (by omega)))
    rw [hc, nI_add, dc_sum_s, Nat.add_assoc]
theorem dc_xpen (A : dc_AW t L) (C : dc_CR t D dv ws wv L) (K : post (nI L.length)) : wpX_pending post (nI pn, nI t, dn, D, va, ev, kd, dl, pk, cn, wt, dv, ws, wv) := by
  unfold wpX_pending
  dsimp only
  rw [dc_CR_len A C] at K
  exact dc_bits ⟨11, dc_xpenL (a := dc_cnt (bt D) 12) K 10 0 rfl⟩
theorem dc_xcomL {s w : Nat} (ht : t ≤ 1000000) (hs : s < 12) (hw : w ≤ 9) (hz : ∀ u, 1 ≤ u → u < w → ¬ bt (ws ((t + u) % 10)) s = true) (hn : bt (ws ((t + w) % 10)) s = true) (K : post (wv ((t + w) % 10 * 12 + s))) : ∀ m u, u + m = w → 1 ≤ u → wX_coming_30 post (nI s) (nI pn) (nI t) dn D va ev kd dl pk cn wt dv ws wv (m + 1) (nI u)
  | 0, u, e, _ => by
    have hu : u = w := by omega
    subst hu
    have hc : (nI ((t + u) % 10)).toNatClampNeg = (t + u) % 10 := nI_clamp (by omega)
    have hx : nI ((t + u) % 10) * 12 + nI s = nI ((t + u) % 10 * 12 + s) := by
      rw [← nI_add, ← pk_mul]
      rfl
    refine br_f (nI_ge (b := 10) (by omega) (by decide)) (dc_slot (by omega) (And.intro (vp_in_nI (by omega) (by decide)) (br_t (by rw [hc]; exact (dc_tst _ (by omega)).mpr hn) (And.intro (by rw [hx]; exact vp_in_nI (by omega) (by decide)) ?_))))
    rw [hx, nI_clamp (by omega)]
    exact K
  | m + 1, u, e, hu => by
    have hc : (nI ((t + u) % 10)).toNatClampNeg = (t + u) % 10 := nI_clamp (by omega)
    refine br_f (nI_ge (b := 10) (by omega) (by decide)) (dc_slot (by omega) (And.intro (vp_in_nI (by omega) (by decide)) (br_f (by rw [hc]; exact fun z => hz u hu (by omega) ((dc_tst _ (by omega)).mp z)) (nm_r (nI_1 u) ?_))))
    exact dc_xcomL ht hs hw hz hn K m (u + 1) (by omega) (by omega)
theorem dc_xcomN {s : Nat} (ht : t ≤ 1000000) (hs : s < 12) (hz : ∀ u, 1 ≤ u → u ≤ 9 → ¬ bt (ws ((t + u) % 10)) s = true) (K : post 0) : ∀ m u, u + m = 10 → 1 ≤ u → wX_coming_30 post (nI s) (nI pn) (nI t) dn D va ev kd dl pk cn wt dv ws wv (m + 1) (nI u)
  | 0, u, e, _ => by
    have hu : u = 10 := by omega
    subst hu
    exact br_t (nI_le (a := 10) (b := 10) (by decide) (by decide)) K
  | m + 1, u, e, hu => by
    have hc : (nI ((t + u) % 10)).toNatClampNeg = (t + u) % 10 := nI_clamp (by omega)
    refine br_f (nI_ge (b := 10) (by omega) (by decide)) (dc_slot (by omega) (And.intro (vp_in_nI (by omega) (by decide)) (br_f (by rw [hc]; exact fun z => hz u hu (by omega) ((dc_tst _ (by omega)).mp z)) (nm_r (nI_1 u) ?_))))
    exact dc_xcomN ht hs hz K m (u + 1) (by omega) (by omega)
theorem dc_xcom0 {s : Nat} (ht : t ≤ 1000000) (hs : s < 12) (C : dc_CR t D dv ws wv L) (h : ∀ e, e ∈ L → ¬ e.1 = s) (K : post 0) : wpX_coming post (nI pn, nI t, dn, D, va, ev, kd, dl, pk, cn, wt, dv, ws, wv) (nI s) := by
  unfold wpX_coming
  dsimp only
  refine dc_bad0 hs (br_t rfl (br_f ?_ ⟨10, dc_xcomN ht hs ?_ K 9 1 rfl (by omega)⟩))
  · intro z
    exact h _ ((C.2.2.2 s t (dv s) hs (by omega) (by omega)).mpr (dc_Pd_0.mpr ⟨(dc_tst D (by omega)).mp z, rfl⟩)) rfl
  · intro u h1 h2 z
    exact h _ ((C.2.2.2 s (t + u) _ hs (by omega) (by omega)).mpr ((dc_Pd_n (by omega)).mpr ⟨z, rfl⟩)) rfl
theorem dc_xcom {s T : Nat} {v : Int32} (ht : t ≤ 1000000) (A : dc_AW t L) (C : dc_CR t D dv ws wv L) (he : (s, T, v) ∈ L) (h : ∀ e, e ∈ L → e.1 = s → T ≤ e.2.1) (K : post v) : wpX_coming post (nI pn, nI t, dn, D, va, ev, kd, dl, pk, cn, wt, dv, ws, wv) (nI s) := by
  have b : s < 12 ∧ t ≤ T ∧ T ≤ t + 9 := A.1 _ he
  have p := (C.2.2.2 s T v b.1 b.2.1 b.2.2).mp he
  unfold wpX_coming
  dsimp only
  refine dc_bad0 b.1 (br_t rfl ?_)
  by_cases q : T = t
  · subst q
    have p' := dc_Pd_0.mp p
    refine br_t ((dc_tst D (by omega)).mpr p'.1) (And.intro (vp_in_nI b.1 (by decide)) ?_)
    rw [nI_clamp (by omega), p'.2]
    exact K
  · have p' := (dc_Pd_n q).mp p
    obtain ⟨w, hw⟩ : ∃ w, T = t + w := ⟨T - t, by omega⟩
    subst hw
    refine br_f ?_ ⟨w - 1 + 1, dc_xcomL ht b.1 (by omega) ?_ p'.1 ?_ (w - 1) 1 (by omega) (by omega)⟩
    · intro z
      have m := (C.2.2.2 s t (dv s) b.1 (by omega) (by omega)).mpr (dc_Pd_0.mpr ⟨(dc_tst D (by omega)).mp z, rfl⟩)
      have l : t + w ≤ t := h _ m rfl
      omega
    · intro u h1 h2 z
      have m := (C.2.2.2 s (t + u) _ b.1 (by omega) (by omega)).mpr ((dc_Pd_n (by omega)).mpr ⟨z, rfl⟩)
      have l : t + w ≤ t + u := h _ m rfl
      omega
    · rw [p'.2]
      exact K
end
section
variable {pn t : Nat} {dn f_now : Int32} {va ev kd dl op cn wt sg vl tm nx : Nat → Int32} {post : Int32 → Prop}
theorem dc_ycomB {x : Int32} {e0 : dc_E} (K : post e0.2.2) : ∀ (Q : List dc_E) (i j : Nat) (eb : dc_E), dc_RY t sg vl tm nx i Q → i + Q.length ≤ 120 → j < 120 → dc_ent t sg vl tm nx j eb → eb.2.1 < 2 ^ 30 → e0.2.1 < 2 ^ 30 → (∀ e, e ∈ Q → e.2.1 < 2 ^ 30) →
    (∀ e, e ∈ Q → nI e.1 = x → e = e0 ∨ e0.2.1 < e.2.1) → (eb = e0 ∨ (e0.2.1 < eb.2.1 ∧ e0 ∈ Q)) → nI e0.1 = x →
    wY_coming_4 post x (nI pn) (nI (i + Q.length)) f_now dn va ev kd dl op cn wt sg vl tm nx (Q.length + 1) (nI j) (nI i)
  | [], i, j, eb, _, hi, hj, Eb, _, _, _, _, h2, _ => by
    have hl : ([] : List dc_E).length = 0 := rfl
    have q : eb = e0 := by
      rcases h2 with z | z
      · exact z
      · cases z.2
    subst q
    refine br_t (nI_le (Nat.le_refl i) (by omega)) (br_t (nI_pos' (by omega)) (And.intro (vp_in_nI (by omega) (by decide)) ?_))
    rw [nI_clamp (by omega), Eb.2.1]
    exact K
  | e :: Q, i, j, eb, R, hi, hj, Eb, hb, h0, hQ, h1, h2, hx => by
    have hl : (e :: Q).length = Q.length + 1 := rfl
    have c1 : (nI i).toNatClampNeg = i := nI_clamp (by omega)
    have c2 : (nI j).toNatClampNeg = j := nI_clamp (by omega)
    have fe : nI (i + (e :: Q).length) = nI (i + 1 + Q.length) := congrArg nI (by omega)
    have E : dc_ent t sg vl tm nx i e := R.1
    have hQ' : ∀ x, x ∈ Q → x.2.1 < 2 ^ 30 := fun x hx => hQ x (List.mem_cons_of_mem _ hx)
    have he := hQ e (List.mem_cons_self ..)
    have h1' : ∀ e, e ∈ Q → nI e.1 = x → e = e0 ∨ e0.2.1 < e.2.1 := fun y hy => h1 y (List.mem_cons_of_mem _ hy)
    have a1 : vp_in (nI i) 128 := vp_in_nI (by omega) (by decide)
    have a2 : vp_in (nI j) 128 := vp_in_nI (by omega) (by decide)
    have ci : tm (nI i).toNatClampNeg = nI e.2.1 := by rw [c1]; exact E.2.2.1
    have cj : tm (nI j).toNatClampNeg = nI eb.2.1 := by rw [c2]; exact Eb.2.2.1
    refine br_f (nI_ge (by omega) (by omega)) (And.intro a1 ?_)
    by_cases q : nI e.1 = x
    · refine br_t (by rw [c1, E.1]; exact q) (br_f (nI_pos (by omega)) (And.intro a1 (And.intro a2 ?_)))
      have h1e := h1 e (List.mem_cons_self ..) q
      refine pk_le eb.2.1 e.2.1 (fun hle => nm_r (nI_1 i) ?_) (fun hlt => nm_r (nI_1 i) ?_) cj ci
      · rw [fe]
        refine dc_ycomB K Q (i + 1) j eb R.2 (by omega) hj Eb hb h0 hQ' h1' ?_ hx
        rcases h2 with z | ⟨z1, z2⟩
        · exact Or.inl z
        · rcases List.mem_cons.mp z2 with z3 | z3
          · subst z3
            omega
          · exact Or.inr ⟨z1, z3⟩
      · rw [fe]
        refine dc_ycomB K Q (i + 1) i e R.2 (by omega) (by omega) E he h0 hQ' h1' ?_ hx
        rcases h1e with z | z
        · exact Or.inl z
        · refine Or.inr ⟨z, ?_⟩
          rcases h2 with y | ⟨y1, y2⟩
          · subst y
            omega
          · rcases List.mem_cons.mp y2 with y3 | y3
            · subst y3
              omega
            · exact y3
    · refine br_f (by rw [c1, E.1]; exact q) (nm_r (nI_1 i) ?_)
      rw [fe]
      refine dc_ycomB K Q (i + 1) j eb R.2 (by omega) hj Eb hb h0 hQ' h1' ?_ hx
      rcases h2 with z | ⟨z1, z2⟩
      · exact Or.inl z
      · rcases List.mem_cons.mp z2 with z3 | z3
        · subst z3
          exact absurd hx q
        · exact Or.inr ⟨z1, z3⟩
theorem dc_ycomA {x : Int32} {e0 : dc_E} (K : post e0.2.2) : ∀ (Q : List dc_E) (i : Nat), dc_RY t sg vl tm nx i Q → i + Q.length ≤ 120 → e0.2.1 < 2 ^ 30 → (∀ e, e ∈ Q → e.2.1 < 2 ^ 30) →
    (∀ e, e ∈ Q → nI e.1 = x → e = e0 ∨ e0.2.1 < e.2.1) → e0 ∈ Q → nI e0.1 = x →
    wY_coming_4 post x (nI pn) (nI (i + Q.length)) f_now dn va ev kd dl op cn wt sg vl tm nx (Q.length + 1) (-1) (nI i)
  | [], i, _, _, _, _, _, h2, _ => by cases h2
  | e :: Q, i, R, hi, h0, hQ, h1, h2, hx => by
    have hl : (e :: Q).length = Q.length + 1 := rfl
    have c1 : (nI i).toNatClampNeg = i := nI_clamp (by omega)
    have fe : nI (i + (e :: Q).length) = nI (i + 1 + Q.length) := congrArg nI (by omega)
    have E : dc_ent t sg vl tm nx i e := R.1
    have hQ' : ∀ x, x ∈ Q → x.2.1 < 2 ^ 30 := fun x hx => hQ x (List.mem_cons_of_mem _ hx)
    have he := hQ e (List.mem_cons_self ..)
    have h1' : ∀ e, e ∈ Q → nI e.1 = x → e = e0 ∨ e0.2.1 < e.2.1 := fun y hy => h1 y (List.mem_cons_of_mem _ hy)
    refine br_f (nI_ge (by omega) (by omega)) (And.intro (vp_in_nI (by omega) (by decide)) ?_)
    by_cases q : nI e.1 = x
    · refine br_t (by rw [c1, E.1]; exact q) (br_t (by decide) (nm_r (nI_1 i) ?_))
      rw [fe]
      refine dc_ycomB K Q (i + 1) i e R.2 (by omega) (by omega) E he h0 hQ' h1' ?_ hx
      rcases h1 e (List.mem_cons_self ..) q with z | z
      · exact Or.inl z
      · refine Or.inr ⟨z, ?_⟩
        rcases List.mem_cons.mp h2 with z3 | z3
        · subst z3
          omega
        · exact z3
    · refine br_f (by rw [c1, E.1]; exact q) (nm_r (nI_1 i) ?_)
      rw [fe]
      refine dc_ycomA K Q (i + 1) R.2 (by omega) h0 hQ' h1' ?_ hx
      rcases List.mem_cons.mp h2 with z3 | z3
      · subst z3
        exact absurd hx q
      · exact z3
theorem dc_ycomN {x : Int32} (K : post 0) : ∀ (Q : List dc_E) (i : Nat), dc_RY t sg vl tm nx i Q → i + Q.length ≤ 120 → (∀ e, e ∈ Q → ¬ nI e.1 = x) →
    wY_coming_4 post x (nI pn) (nI (i + Q.length)) f_now dn va ev kd dl op cn wt sg vl tm nx (Q.length + 1) (-1) (nI i)
  | [], i, _, hi, _ => by
    have hl : ([] : List dc_E).length = 0 := rfl
    exact br_t (nI_le (Nat.le_refl i) (by omega)) (br_f (by decide) K)
  | e :: Q, i, R, hi, h => by
    have hl : (e :: Q).length = Q.length + 1 := rfl
    have c1 : (nI i).toNatClampNeg = i := nI_clamp (by omega)
    have fe : nI (i + (e :: Q).length) = nI (i + 1 + Q.length) := congrArg nI (by omega)
    have E : dc_ent t sg vl tm nx i e := R.1
    refine br_f (nI_ge (by omega) (by omega)) (And.intro (vp_in_nI (by omega) (by decide)) (br_f (by rw [c1, E.1]; exact h e (List.mem_cons_self ..)) (nm_r (nI_1 i) ?_)))
    rw [fe]
    exact dc_ycomN K Q (i + 1) R.2 (by omega) (fun y hy => h y (List.mem_cons_of_mem _ hy))
theorem dc_ycom0 {L : List dc_E} {x : Int32} (A : dc_AW t L) (R : dc_RY t sg vl tm nx 0 L) (h : ∀ e, e ∈ L → ¬ nI e.1 = x) (K : post 0) : wpY_coming post (nI pn, nI L.length, f_now, dn, va, ev, kd, dl, op, cn, wt, sg, vl, tm, nx) x := by
  refine ⟨L.length + 1, ?_⟩
  have h := dc_ycomN (pn := pn) (dn := dn) (f_now := f_now) (va := va) (ev := ev) (kd := kd) (dl := dl) (op := op) (cn := cn) (wt := wt) K L 0 R (by have := dc_AW_len A; omega) h
  rw [Nat.zero_add] at h
  exact h
theorem dc_pw {L : List dc_E} (P : L.Pairwise (fun a b => ¬ (a.1 = b.1 ∧ a.2.1 = b.2.1))) {a b : dc_E} (ha : a ∈ L) (hb : b ∈ L) (h1 : a.1 = b.1) (h2 : a.2.1 = b.2.1) : a = b := by
  induction L with
  | nil => cases ha
  | cons e L ih =>
    obtain ⟨P1, P2⟩ := List.pairwise_cons.mp P
    rcases List.mem_cons.mp ha with za | za
    · rcases List.mem_cons.mp hb with zb | zb
      · exact za.trans zb.symm
      · subst za
        exact absurd ⟨h1, h2⟩ (P1 b zb)
    · rcases List.mem_cons.mp hb with zb | zb
      · subst zb
        exact absurd ⟨h1.symm, h2.symm⟩ (P1 a za)
      · exact ih P2 za zb
theorem dc_ycom {L : List dc_E} {s T : Nat} {v : Int32} (ht : t ≤ 1000000) (A : dc_AW t L) (R : dc_RY t sg vl tm nx 0 L) (he : (s, T, v) ∈ L) (h : ∀ e, e ∈ L → e.1 = s → T ≤ e.2.1) (K : post v) : wpY_coming post (nI pn, nI L.length, f_now, dn, va, ev, kd, dl, op, cn, wt, sg, vl, tm, nx) (nI s) := by
  refine ⟨L.length + 1, ?_⟩
  have b : s < 12 ∧ t ≤ T ∧ T ≤ t + 9 := A.1 _ he
  have h := dc_ycomA (pn := pn) (dn := dn) (f_now := f_now) (va := va) (ev := ev) (kd := kd) (dl := dl) (op := op) (cn := cn) (wt := wt) (e0 := (s, T, v)) (x := nI s) K L 0 R (by have := dc_AW_len A; omega) (show T < 2 ^ 30 from by omega) (fun e m => by have := A.1 e m; omega) (by
    intro e m q
    have b' := A.1 e m
    have q' : e.1 = s := (nI_eq (by omega) (by omega)).mp q
    have l := h e m q'
    by_cases z : e.2.1 = T
    · exact Or.inl (dc_pw A.2 m he q' z)
    · exact Or.inr (show T < e.2.1 from by omega)) he rfl
  rw [Nat.zero_add] at h
  exact h
theorem dc_min_ex {s : Nat} : ∀ (L : List dc_E), (∃ e, e ∈ L ∧ e.1 = s) → ∃ T v, (s, T, v) ∈ L ∧ ∀ e, e ∈ L → e.1 = s → T ≤ e.2.1
  | [], h => by
    obtain ⟨e, he, _⟩ := h
    cases he
  | e :: L, h => by
    by_cases c : ∃ e, e ∈ L ∧ e.1 = s
    · obtain ⟨T, v, m, l⟩ := dc_min_ex L c
      by_cases q : e.1 = s ∧ e.2.1 < T
      · refine ⟨e.2.1, e.2.2, ?_, ?_⟩
        · rw [← q.1]
          exact List.mem_cons_self ..
        · intro y hy hq
          rcases List.mem_cons.mp hy with z | z
          · rw [z]
            exact Nat.le_refl _
          · have := l y z hq
            omega
      · refine ⟨T, v, List.mem_cons_of_mem _ m, ?_⟩
        intro y hy hq
        rcases List.mem_cons.mp hy with z | z
        · subst z
          omega
        · exact l y z hq
    · refine ⟨e.2.1, e.2.2, ?_, ?_⟩
      · obtain ⟨y, hy, hq⟩ := h
        rcases List.mem_cons.mp hy with z | z
        · subst z
          rw [← hq]
          exact List.mem_cons_self ..
        · exact absurd ⟨y, z, hq⟩ c
      · intro y hy hq
        rcases List.mem_cons.mp hy with z | z
        · rw [z]
          exact Nat.le_refl _
        · exact absurd ⟨y, z, hq⟩ c
end
end
section
def dc_nib (x : Int32) (w : Nat) : Nat := (x >>> ((4 * nI w) &&& 31)).toBitVec.toNat % 2 ^ 4
theorem dc_nibE (x : Int32) (w : Nat) : (x >>> ((4 * nI w) &&& 31)) &&& 15 = nI (dc_nib x w) := pk_and _ 4 (by decide)
theorem dc_nib_lt (x : Int32) (w : Nat) : dc_nib x w < 16 := Nat.mod_lt _ (by decide)
theorem dc_y0 (x : Int32) : (x &&& 65535) &&& 15 = nI (dc_nib x 0) := by
  rw [← dc_nibE x 0, show (4 * nI 0 : Int32) = nI 0 from by decide]
  apply b_ext
  intro i hi
  rw [b_and, b_and, b_and, b_65535, dc_bt15, b_sshr 0 (by decide) x hi, Nat.zero_add, if_pos hi]
  by_cases l : i < 4
  · rw [decide_eq_true (p := i < 16) (by omega), Bool.and_true]
  · rw [decide_eq_false l, Bool.and_false, Bool.and_false]
theorem dc_yw (x : Int32) (w : Nat) (hw : w < 3) : ((x &&& 65535) >>> (nI (4 * w) &&& 31)) &&& 15 = nI (dc_nib x w) := by
  rw [← dc_nibE x w, show (4 * nI w : Int32) = nI (4 * w) from pk_mul 4 w]
  apply b_ext
  intro i hi
  rw [b_and, b_and, b_sshr (4 * w) (by omega) _ hi, b_sshr (4 * w) (by omega) _ hi, dc_bt15, b_and, b_and, b_65535, b_65535]
  by_cases l : i < 4
  · rw [if_pos (by omega), if_pos (by omega), decide_eq_true (p := 4 * w + i < 16) (by omega), Bool.and_true]
  · rw [decide_eq_false l, Bool.and_false, Bool.and_false]
theorem dc_y3 (x : Int32) : (x &&& 65535) >>> (nI 12 &&& 31) = nI (dc_nib x 3) := by
  rw [← dc_nibE x 3, show (4 * nI 3 : Int32) = nI 12 from by decide]
  apply b_ext
  intro i hi
  rw [b_and, b_sshr 12 (by decide) _ hi, b_sshr 12 (by decide) _ hi, dc_bt15, b_and, b_and, b_65535, b_65535]
  by_cases l : i < 4
  · rw [if_pos (by omega), if_pos (by omega), decide_eq_true (p := 12 + i < 16) (by omega), decide_eq_true l]
  · rw [decide_eq_false l, Bool.and_false, decide_eq_false (p := 12 + i < 16) (by omega), decide_eq_false (p := (31 : Nat) < 16) (by decide), Bool.and_false, Bool.and_false]
    split <;> rfl
def dc_res (k : Nat) (x y z c : Int32) : Int32 := if k = 0 then x + y else if k = 1 then x &&& y else if k = 2 then x ^^^ y else if k = 3 then x + c else if k = 4 then (if z = 0 then y else x) else x ^^^ (-1)
theorem dc_k6 {k : Nat} (h : k ≤ 5) : k = 0 ∨ k = 1 ∨ k = 2 ∨ k = 3 ∨ k = 4 ∨ k = 5 := by omega
section
variable {pn t : Nat} {dn D : Int32} {va ev kd dl pk cn wt dv ws wv : Nat → Int32} {L : List dc_E}
theorem dc_part {post : Int32 → Prop} {p : Nat} (w : Nat) (hp : p < 8) (h : post (nI (dc_nib (pk p) w))) : wpX_part post (nI pn, nI t, dn, D, va, ev, kd, dl, pk, cn, wt, dv, ws, wv) (nI p) (nI w) := by
  refine And.intro (vp_in_nI hp (by decide)) ?_
  show post (((pk (nI p).toNatClampNeg) >>> ((4 * nI w) &&& 31)) &&& 15)
  rw [nI_clamp (by omega), dc_nibE]
  exact h
theorem dc_xres {post : Int32 → Prop} {p k : Nat} (hp : p < 8) (hk : k ≤ 5) (ek : kd p = nI k) (hn : ∀ w, w < 4 → dc_nib (pk p) w < 12)
    (h : post (dc_res k (va (dc_nib (pk p) 0)) (va (dc_nib (pk p) 1)) (va (dc_nib (pk p) 2)) (cn p))) : wpX_result post (nI pn, nI t, dn, D, va, ev, kd, dl, pk, cn, wt, dv, ws, wv) (nI p) := by
  have h0 := hn 0 (by decide)
  have h1 := hn 1 (by decide)
  have h2 := hn 2 (by decide)
  have cp : (nI p).toNatClampNeg = p := nI_clamp (by omega)
  have ap : vp_in (nI p) 8 := vp_in_nI hp (by decide)
  unfold wpX_result
  dsimp only
  refine dc_part 0 hp (And.intro (vp_in_nI h0 (by decide)) (nm_r (e' := va (dc_nib (pk p) 0)) (by rw [nI_clamp (by omega)]) ?_))
  refine dc_part 1 hp (And.intro (vp_in_nI h1 (by decide)) (nm_r (e' := va (dc_nib (pk p) 1)) (by rw [nI_clamp (by omega)]) ?_))
  refine And.intro ap (nm_r (e' := nI k) (by rw [cp]; exact ek) ?_)
  rcases dc_k6 hk with z | z | z | z | z | z
  · subst z
    exact br_f (by decide) (br_f (by decide) (br_t (by decide) h))
  · subst z
    exact br_f (by decide) (br_f (by decide) (br_f (by decide) (br_t (by decide) h)))
  · subst z
    exact br_f (by decide) (br_f (by decide) (br_f (by decide) (br_f (by decide) (br_t (by decide) h))))
  · subst z
    refine br_f (by decide) (br_f (by decide) (br_f (by decide) (br_f (by decide) (br_f (by decide) (br_t (by decide) (And.intro ap ?_))))))
    rw [cp]
    exact h
  · subst z
    refine br_f (by decide) (br_f (by decide) (br_f (by decide) (br_f (by decide) (br_f (by decide) (br_f (by decide) (br_t (by decide) ?_))))))
    refine dc_part 2 hp (And.intro (vp_in_nI h2 (by decide)) ?_)
    have c2 : (nI (dc_nib (pk p) 2)).toNatClampNeg = dc_nib (pk p) 2 := nI_clamp (by omega)
    have h' : post (if va (dc_nib (pk p) 2) = 0 then va (dc_nib (pk p) 1) else va (dc_nib (pk p) 0)) := h
    by_cases q : va (dc_nib (pk p) 2) = 0
    · rw [if_pos q] at h'
      exact br_t (by rw [c2]; exact q) h'
    · rw [if_neg q] at h'
      exact br_f (by rw [c2]; exact q) h'
  · subst z
    exact br_f (by decide) (br_t (by decide) h)
theorem dc_xco {post : SX → Prop} {p k d : Nat} (hp : p < 8) (hk : k ≤ 5) (ek : kd p = nI k) (hd : d ≤ 9) (ed : dl p = nI d) (hn : ∀ w, w < 4 → dc_nib (pk p) w < 12) (ht : t ≤ 1000000) (C : dc_CR t D dv ws wv L)
    (K : ∀ D' dv' ws' wv', dc_CR t D' dv' ws' wv' (dc_put L (dc_nib (pk p) 3) (t + d) (dc_res k (va (dc_nib (pk p) 0)) (va (dc_nib (pk p) 1)) (va (dc_nib (pk p) 2)) (cn p))) → post (nI pn, nI t, dn, D', va, ev, kd, dl, pk, cn, wt, dv', ws', wv')) : wpX_carryOut post (nI pn, nI t, dn, D, va, ev, kd, dl, pk, cn, wt, dv, ws, wv) (nI p) := by
  unfold wpX_carryOut
  dsimp only
  refine dc_xres hp hk ek hn (dc_part 3 hp (And.intro (vp_in_nI hp (by decide)) ?_))
  rw [nI_clamp (by omega), ed]
  exact dc_xput (hn 3 (by decide)) hd ht C K
end
section
variable {pn t : Nat} {dn : Int32} {va ev kd dl pk op cn wt sg vl tm nx : Nat → Int32} {L : List dc_E} {post : SY → Prop}
theorem dc_yc143 {p d : Nat} {r : Int32} (hp : p < 8) (hd : d ≤ 9) (ed : dl p = nI d) (hn : dc_nib (pk p) 3 < 12) (eo : op p = pk p &&& 65535) (ht : t ≤ 1000000) (A : dc_AW t L) (R : dc_RY t sg vl tm nx 0 L)
    (P : ∀ sg' vl' tm' nx', dc_RY t sg' vl' tm' nx' 0 (dc_put L (dc_nib (pk p) 3) (t + d) r) → post (nI pn, nI (dc_put L (dc_nib (pk p) 3) (t + d) r).length, nI t, dn, va, ev, kd, dl, op, cn, wt, sg', vl', tm', nx')) : wY_carryOut_143 post (nI p) r (nI pn) (nI L.length) (nI t) dn va ev kd dl op cn wt sg vl tm nx := by
  have ap : vp_in (nI p) 8 := vp_in_nI hp (by decide)
  refine And.intro ap (And.intro ap ?_)
  rw [nI_clamp (by omega), ed, eo, show (12 : Int32) = nI 12 from rfl, dc_y3]
  exact dc_yput hn hd ht A R P
theorem dc_yco {p k d : Nat} (hp : p < 8) (hk : k ≤ 5) (ek : kd p = nI k) (hd : d ≤ 9) (ed : dl p = nI d) (hn : ∀ w, w < 4 → dc_nib (pk p) w < 12) (eo : op p = pk p &&& 65535) (ht : t ≤ 1000000) (A : dc_AW t L) (R : dc_RY t sg vl tm nx 0 L)
    (P : ∀ sg' vl' tm' nx', dc_RY t sg' vl' tm' nx' 0 (dc_put L (dc_nib (pk p) 3) (t + d) (dc_res k (va (dc_nib (pk p) 0)) (va (dc_nib (pk p) 1)) (va (dc_nib (pk p) 2)) (cn p))) → post (nI pn, nI (dc_put L (dc_nib (pk p) 3) (t + d) (dc_res k (va (dc_nib (pk p) 0)) (va (dc_nib (pk p) 1)) (va (dc_nib (pk p) 2)) (cn p))).length, nI t, dn, va, ev, kd, dl, op, cn, wt, sg', vl', tm', nx')) : wpY_carryOut post (nI pn, nI L.length, nI t, dn, va, ev, kd, dl, op, cn, wt, sg, vl, tm, nx) (nI p) := by
  have h0 := hn 0 (by decide)
  have h1 := hn 1 (by decide)
  have h2 := hn 2 (by decide)
  have cp : (nI p).toNatClampNeg = p := nI_clamp (by omega)
  have ap : vp_in (nI p) 8 := vp_in_nI hp (by decide)
  have o0 : op (nI p).toNatClampNeg &&& 15 = nI (dc_nib (pk p) 0) := by
    rw [cp, eo]
    exact dc_y0 _
  have o1 : (op (nI p).toNatClampNeg >>> ((4 : Int32) &&& 31)) &&& 15 = nI (dc_nib (pk p) 1) := by
    rw [cp, eo]
    exact dc_yw _ 1 (by decide)
  have o2 : (op (nI p).toNatClampNeg >>> ((8 : Int32) &&& 31)) &&& 15 = nI (dc_nib (pk p) 2) := by
    rw [cp, eo]
    exact dc_yw _ 2 (by decide)
  have ekp : kd (nI p).toNatClampNeg = nI k := by
    rw [cp]
    exact ek
  have fin : ∀ r, r = dc_res k (va (dc_nib (pk p) 0)) (va (dc_nib (pk p) 1)) (va (dc_nib (pk p) 2)) (cn p) → wY_carryOut_143 post (nI p) r (nI pn) (nI L.length) (nI t) dn va ev kd dl op cn wt sg vl tm nx := by
    intro r hr
    subst hr
    exact dc_yc143 hp hd ed (hn 3 (by decide)) eo ht A R P
  refine And.intro ap (And.intro (by rw [o0]; exact vp_in_nI h0 (by decide)) (nm_r (e' := va (dc_nib (pk p) 0)) (by rw [o0, nI_clamp (by omega)]) ?_))
  refine And.intro ap (And.intro (by rw [o1]; exact vp_in_nI h1 (by decide)) (nm_r (e' := va (dc_nib (pk p) 1)) (by rw [o1, nI_clamp (by omega)]) ?_))
  refine And.intro ap (And.intro (by rw [o2]; exact vp_in_nI h2 (by decide)) (nm_r (e' := va (dc_nib (pk p) 2)) (by rw [o2, nI_clamp (by omega)]) ?_))
  refine nm_e (And.intro ap ?_)
  rcases dc_k6 hk with z | z | z | z | z | z
  · subst z
    exact br_f (by rw [ekp]; decide) (And.intro ap (br_f (by rw [ekp]; decide) (And.intro ap (br_f (by rw [ekp]; decide) (And.intro ap (br_f (by rw [ekp]; decide) (And.intro ap (br_f (by rw [ekp]; decide) (fin _ rfl)))))))))
  · subst z
    exact br_t ekp (nm_e (And.intro ap (br_f (by rw [ekp]; decide) (And.intro ap (br_f (by rw [ekp]; decide) (And.intro ap (br_f (by rw [ekp]; decide) (And.intro ap (br_f (by rw [ekp]; decide) (fin _ rfl))))))))))
  · subst z
    exact br_f (by rw [ekp]; decide) (And.intro ap (br_t ekp (nm_e (And.intro ap (br_f (by rw [ekp]; decide) (And.intro ap (br_f (by rw [ekp]; decide) (And.intro ap (br_f (by rw [ekp]; decide) (fin _ rfl))))))))))
  · subst z
    exact br_f (by rw [ekp]; decide) (And.intro ap (br_f (by rw [ekp]; decide) (And.intro ap (br_t ekp (And.intro ap (nm_r (e' := va (dc_nib (pk p) 0) + cn p) (by rw [cp]) (And.intro ap (br_f (by rw [ekp]; decide) (And.intro ap (br_f (by rw [ekp]; decide) (fin _ rfl)))))))))))
  · subst z
    refine br_f (by rw [ekp]; decide) (And.intro ap (br_f (by rw [ekp]; decide) (And.intro ap (br_f (by rw [ekp]; decide) (And.intro ap (br_t ekp (br_c (fun q => ?_) (fun q => ?_))))))))
    · exact And.intro ap (br_f (by rw [ekp]; decide) (fin _ (if_pos q).symm))
    · exact And.intro ap (br_f (by rw [ekp]; decide) (fin _ (if_neg q).symm))
  · subst z
    exact br_f (by rw [ekp]; decide) (And.intro ap (br_f (by rw [ekp]; decide) (And.intro ap (br_f (by rw [ekp]; decide) (And.intro ap (br_f (by rw [ekp]; decide) (And.intro ap (br_t ekp (nm_e (fin _ rfl))))))))))
end
def dc_PF (pn : Nat) (kd dl pk op : Nat → Int32) : Prop := pn ≤ 8 ∧ (∀ p, p < pn → (∃ k : Nat, k ≤ 5 ∧ kd p = nI k) ∧ (∃ d : Nat, d ≤ 9 ∧ dl p = nI d) ∧ ∀ w, w < 4 → dc_nib (pk p) w < 12) ∧ ∀ p, op p = pk p &&& 65535
theorem dc_co {pn : Nat} {va kd dl pk op cn wt : Nat → Int32} (H : dc_PF pn kd dl pk op) {p : Nat} (hp : p < pn) : ∃ (s d : Nat) (v : Int32), s < 12 ∧ d ≤ 9 ∧
    (∀ (post : SX → Prop) (t : Nat) (dn D : Int32) (ev dv ws wv : Nat → Int32) (L : List dc_E), t ≤ 1000000 → dc_CR t D dv ws wv L → (∀ D' dv' ws' wv', dc_CR t D' dv' ws' wv' (dc_put L s (t + d) v) → post (nI pn, nI t, dn, D', va, ev, kd, dl, pk, cn, wt, dv', ws', wv')) → wpX_carryOut post (nI pn, nI t, dn, D, va, ev, kd, dl, pk, cn, wt, dv, ws, wv) (nI p)) ∧
    (∀ (post : SY → Prop) (t : Nat) (dn : Int32) (ev sg vl tm nx : Nat → Int32) (L : List dc_E), t ≤ 1000000 → dc_AW t L → dc_RY t sg vl tm nx 0 L → (∀ sg' vl' tm' nx', dc_RY t sg' vl' tm' nx' 0 (dc_put L s (t + d) v) → post (nI pn, nI (dc_put L s (t + d) v).length, nI t, dn, va, ev, kd, dl, op, cn, wt, sg', vl', tm', nx')) → wpY_carryOut post (nI pn, nI L.length, nI t, dn, va, ev, kd, dl, op, cn, wt, sg, vl, tm, nx) (nI p)) := by
  obtain ⟨h8, h, ho⟩ := H
  obtain ⟨⟨k, hk, ek⟩, ⟨d, hd, ed⟩, hn⟩ := h p hp
  refine ⟨dc_nib (pk p) 3, d, dc_res k (va (dc_nib (pk p) 0)) (va (dc_nib (pk p) 1)) (va (dc_nib (pk p) 2)) (cn p), hn 3 (by decide), hd, ?_, ?_⟩
  · intro post t dn D ev dv ws wv L ht C K
    exact dc_xco (by omega) hk ek hd ed hn ht C K
  · intro post t dn ev sg vl tm nx L ht A R P
    exact dc_yco (by omega) hk ek hd ed hn (ho p) ht A R P
end
section
section
variable {pn : Nat} {kd dl pk op cn wt : Nat → Int32}
theorem dc_loop {va : Nat → Int32} (H : dc_PF pn kd dl pk op) (ch : Int32) : ∀ (m p : Nat), p + m = pn → ∀ (t : Nat) (L : List dc_E), t ≤ 1000000 → dc_AW t L → ∃ L' : List dc_E, dc_AW t L' ∧
    (∀ (post : Int32 → SX → Prop) (dn D : Int32) (ev dv ws wv : Nat → Int32), dc_CR t D dv ws wv L → (∀ D' dv' ws' wv', dc_CR t D' dv' ws' wv' L' → post (nI (dc_cnt (bt ch) 12)) (nI pn, nI t, dn, D', va, ev, kd, dl, pk, cn, wt, dv', ws', wv')) → wX_step_30 post ch (m + 1) (nI p) (nI pn) (nI t) dn D va ev kd dl pk cn wt dv ws wv) ∧
    (∀ (post : Int32 → SY → Prop) (dn : Int32) (ev sg vl tm nx : Nat → Int32), dc_RY t sg vl tm nx 0 L → (∀ sg' vl' tm' nx', dc_RY t sg' vl' tm' nx' 0 L' → post (nI (dc_cnt (bt ch) 12)) (nI pn, nI L'.length, nI t, dn + 1, va, ev, kd, dl, op, cn, wt, sg', vl', tm', nx')) → wY_step_31 post ch (m + 1) (nI p) (nI pn) (nI L.length) (nI t) dn va ev kd dl op cn wt sg vl tm nx)
  | 0, p, e, t, L, ht, A => by
    have h8 := H.1
    have hp : p = pn := by omega
    subst hp
    refine ⟨L, A, ?_, ?_⟩
    · intro post dn D ev dv ws wv C K
      exact br_t (nI_le (Nat.le_refl p) (by omega)) (dc_bits (K D dv ws wv C))
    · intro post dn ev sg vl tm nx R P
      exact br_t (nI_le (Nat.le_refl p) (by omega)) (nm_e (dc_ybits (P sg vl tm nx R)))
  | m + 1, p, e, t, L, ht, A => by
    have h8 := H.1
    have cp : (nI p).toNatClampNeg = p := nI_clamp (by omega)
    have ap : vp_in (nI p) 8 := vp_in_nI (by omega) (by decide)
    by_cases q : wt p &&& ch = 0
    · obtain ⟨L', A', hX, hY⟩ := dc_loop (va := va) H ch m (p + 1) (by omega) t L ht A
      refine ⟨L', A', ?_, ?_⟩
      · intro post dn D ev dv ws wv C K
        exact br_f (nI_ge (by omega) (by omega)) (And.intro ap (br_t (by rw [cp]; exact q) (nm_r (nI_1 p) (hX post dn D ev dv ws wv C K))))
      · intro post dn ev sg vl tm nx R P
        exact br_f (nI_ge (by omega) (by omega)) (And.intro ap (br_t (by rw [cp]; exact q) (nm_r (nI_1 p) (hY post dn ev sg vl tm nx R P))))
    · obtain ⟨s, d, v, hs, hd, cX, cY⟩ := dc_co (va := va) (cn := cn) (wt := wt) H (p := p) (by omega)
      obtain ⟨L', A', hX, hY⟩ := dc_loop (va := va) H ch m (p + 1) (by omega) t (dc_put L s (t + d) v) ht (dc_AW_put hs hd A)
      refine ⟨L', A', ?_, ?_⟩
      · intro post dn D ev dv ws wv C K
        refine br_f (nI_ge (by omega) (by omega)) (And.intro ap (br_f (by rw [cp]; exact q) (cX _ t dn D ev dv ws wv L ht C ?_)))
        intro D' dv' ws' wv' C'
        exact nm_r (nI_1 p) (hX post dn D' ev dv' ws' wv' C' K)
      · intro post dn ev sg vl tm nx R P
        refine br_f (nI_ge (by omega) (by omega)) (And.intro ap (br_f (by rw [cp]; exact q) (cY _ t dn ev sg vl tm nx L ht A R ?_)))
        intro sg' vl' tm' nx' R'
        exact nm_r (nI_1 p) (hY post dn ev sg' vl' tm' nx' R' P)
theorem dc_step {va ev : Nat → Int32} (H : dc_PF pn kd dl pk op) {t w : Nat} {L : List dc_E} (ht : t ≤ 900000) (A : dc_AW t L) (hw : w ≤ 9) (F : dc_first t L w) : ∃ (r : Int32) (L' : List dc_E) (va' ev' : Nat → Int32), dc_AW (t + w) L' ∧
    (∀ (post : Int32 → SX → Prop) (dn D : Int32) (dv ws wv : Nat → Int32), dc_CR t D dv ws wv L → (∀ D' dv' ws' wv', dc_CR (t + w) D' dv' ws' wv' L' → post r (nI pn, nI (t + w), dn + 1, D', va', ev', kd, dl, pk, cn, wt, dv', ws', wv')) → wpX_step post (nI pn, nI t, dn, D, va, ev, kd, dl, pk, cn, wt, dv, ws, wv)) ∧
    (∀ (post : Int32 → SY → Prop) (dn : Int32) (sg vl tm nx : Nat → Int32), dc_RY t sg vl tm nx 0 L → (∀ sg' vl' tm' nx', dc_RY (t + w) sg' vl' tm' nx' 0 L' → post r (nI pn, nI L'.length, nI (t + w), dn + 1, va', ev', kd, dl, op, cn, wt, sg', vl', tm', nx')) → wpY_step post (nI pn, nI L.length, nI t, dn, va, ev, kd, dl, op, cn, wt, sg, vl, tm, nx)) := by
  have h8 := H.1
  obtain ⟨L', A', hX, hY⟩ := dc_loop (cn := cn) (wt := wt) (va := dc_vs (dc_fold (t + w) L va) va 12) H (dc_ch (dc_fold (t + w) L va) va 12) pn 0 (Nat.zero_add pn) (t + w) (dc_rest (t + w) L) (by omega) (dc_AW_rest A F)
  refine ⟨nI (dc_cnt (bt (dc_ch (dc_fold (t + w) L va) va 12)) 12), L', dc_vs (dc_fold (t + w) L va) va 12, dc_es (dc_fold (t + w) L va) va ev 12, A', ?_, ?_⟩
  · intro post dn D dv ws wv C K
    unfold wpX_step
    dsimp only
    refine dc_xnu (by omega) A C hw F (br_t (nI_pos' (by omega)) (dc_xtake (N := dc_fold (t + w) L va) (by omega) A C hw F (fun s v m => dc_fold_y L va A.2 m) (fun s h => dc_fold_n L va h) ?_))
    intro D' ws' C'
    exact nm_e ⟨pn + 1, hX post (dn + 1) D' _ dv ws' wv C' K⟩
  · intro post dn sg vl tm nx R P
    have hne : 0 < L.length := by
      obtain ⟨e, he, _⟩ := F.1
      exact List.length_pos_of_mem he
    have hl := dc_AW_len A
    refine br_f (nI_ne0 hne (by omega)) ?_
    have fin : ∀ x1 : Int32, (x1 = 0 ∨ (x1 = 1 ∧ w = 0)) → wpY_nextTime (fun r_18 => wpY_update (fun r_34 u => match u with | (f_processes, f_changes, f_now, f_done, a_values, a_eventCounts, a_kinds, a_delays, a_operands, a_constants, a_watches, a_changeSignal, a_changeValue, a_changeTime, a_changeNext) => ∃ n31 : Nat, wY_step_31 post r_34 n31 0 f_processes f_changes f_now f_done a_values a_eventCounts a_kinds a_delays a_operands a_constants a_watches a_changeSignal a_changeValue a_changeTime a_changeNext) (nI pn, nI L.length, r_18, dn, va, ev, kd, dl, op, cn, wt, sg, vl, tm, nx) x1) (nI pn, nI L.length, nI t, dn, va, ev, kd, dl, op, cn, wt, sg, vl, tm, nx) := by
      intro x1 hx
      refine dc_ynt (by omega) A R F (dc_yup hx hw (by omega) A F R ?_)
      intro sg' vl' tm' nx' R'
      exact ⟨pn + 1, hY post dn _ sg' vl' tm' nx' R' P⟩
    by_cases h0 : w = 0
    · subst h0
      exact dc_yan1 A R F (fin 1 (Or.inr ⟨rfl, rfl⟩))
    · exact dc_yan0 A R (by omega) F (fin 0 (Or.inl rfl))
theorem dc_xstep0 {va ev dv ws wv : Nat → Int32} {t : Nat} {dn D : Int32} {post : Int32 → SX → Prop} (ht : t ≤ 900000) (C : dc_CR t D dv ws wv []) (K : post (-5) (nI pn, nI t, dn, D, va, ev, kd, dl, pk, cn, wt, dv, ws, wv)) : wpX_step post (nI pn, nI t, dn, D, va, ev, kd, dl, pk, cn, wt, dv, ws, wv) := by
  unfold wpX_step
  dsimp only
  exact dc_xnu0 (by omega) C (br_f (by decide) K)
theorem dc_ystep0 {va ev sg vl tm nx : Nat → Int32} {t : Nat} {dn : Int32} {post : Int32 → SY → Prop} (K : post (-5) (nI pn, nI 0, nI t, dn, va, ev, kd, dl, op, cn, wt, sg, vl, tm, nx)) : wpY_step post (nI pn, nI 0, nI t, dn, va, ev, kd, dl, op, cn, wt, sg, vl, tm, nx) := br_t rfl K
theorem dc_due1 {va ev dv ws wv : Nat → Int32} {t w E : Nat} {dn D : Int32} {L : List dc_E} {post : Int32 → Prop} (ht : t ≤ 900000) (hE : E ≤ 900000) (A : dc_AW t L) (C : dc_CR t D dv ws wv L) (hw : w ≤ 9) (F : dc_first t L w) (h : t + w ≤ E) (K : post 1) : wpX_due post (nI pn, nI t, dn, D, va, ev, kd, dl, pk, cn, wt, dv, ws, wv) (nI E) := by
  unfold wpX_due
  dsimp only
  refine dc_xnu (by omega) A C hw F (br_f (nI_pos (by omega)) (br_f ?_ K))
  rw [nI_add]
  exact nI_nlt h (by omega)
theorem dc_due0 {va ev dv ws wv : Nat → Int32} {t w E : Nat} {dn D : Int32} {L : List dc_E} {post : Int32 → Prop} (ht : t ≤ 900000) (hE : E ≤ 900000) (A : dc_AW t L) (C : dc_CR t D dv ws wv L) (hw : w ≤ 9) (F : dc_first t L w) (h : E < t + w) (K : post 0) : wpX_due post (nI pn, nI t, dn, D, va, ev, kd, dl, pk, cn, wt, dv, ws, wv) (nI E) := by
  unfold wpX_due
  dsimp only
  refine dc_xnu (by omega) A C hw F (br_f (nI_pos (by omega)) (br_t ?_ K))
  rw [nI_add]
  exact nI_lt h (by omega)
theorem dc_dueN {va ev dv ws wv : Nat → Int32} {t E : Nat} {dn D : Int32} {post : Int32 → Prop} (ht : t ≤ 900000) (C : dc_CR t D dv ws wv []) (K : post 0) : wpX_due post (nI pn, nI t, dn, D, va, ev, kd, dl, pk, cn, wt, dv, ws, wv) (nI E) := by
  unfold wpX_due
  dsimp only
  exact dc_xnu0 (by omega) C (br_t (by decide) K)
theorem dc_dueA {va ev dv ws wv : Nat → Int32} {t E : Nat} {dn D : Int32} {L : List dc_E} {post : Int32 → Prop} (ht : t ≤ 900000) (hE : E ≤ 900000) (A : dc_AW t L) (C : dc_CR t D dv ws wv L) (K : ∀ r, post r) : wpX_due post (nI pn, nI t, dn, D, va, ev, kd, dl, pk, cn, wt, dv, ws, wv) (nI E) := by
  by_cases hL : L = []
  · subst hL
    exact dc_dueN ht C (K 0)
  · obtain ⟨w, hw, F⟩ := dc_first_ex A.1 hL
    rcases Nat.lt_or_ge E (t + w) with l | l
    · exact dc_due0 ht hE A C hw F l (K 0)
    · exact dc_due1 ht hE A C hw F l (K 1)
theorem dc_run (H : dc_PF pn kd dl pk op) {most E : Nat} (hm : most ≤ 200) (hE : E ≤ 900000) : ∀ (m made : Nat), made + m = most → ∀ (t : Nat) (L : List dc_E) (dn : Int32) (va ev : Nat → Int32), t ≤ E → dc_AW t L → ∃ (r : Int32) (t' : Nat) (L' : List dc_E) (dn' : Int32) (va' ev' : Nat → Int32), t' ≤ E ∧ dc_AW t' L' ∧
    (∀ (post : Int32 → SX → Prop) (D : Int32) (dv ws wv : Nat → Int32) (G : Int32 → Prop), (∀ z, wX_run_59 post (nI most) (nI E) (m + 1) (nI made) z (nI pn) (nI t) dn D va ev kd dl pk cn wt dv ws wv → G z) → dc_CR t D dv ws wv L → (∀ D' dv' ws' wv', dc_CR t' D' dv' ws' wv' L' → post r (nI pn, nI t', dn', D', va', ev', kd, dl, pk, cn, wt, dv', ws', wv')) → wpX_due G (nI pn, nI t, dn, D, va, ev, kd, dl, pk, cn, wt, dv, ws, wv) (nI E)) ∧
    (∀ (post : Int32 → SY → Prop) (sg vl tm nx : Nat → Int32), dc_RY t sg vl tm nx 0 L → (∀ sg' vl' tm' nx', dc_RY t' sg' vl' tm' nx' 0 L' → post r (nI pn, nI L'.length, nI t', dn', va', ev', kd, dl, op, cn, wt, sg', vl', tm', nx')) → wY_run_55 post (nI E) (nI most) (m + 1) (nI made) (nI pn) (nI L.length) (nI t) dn va ev kd dl op cn wt sg vl tm nx)
  | 0, made, e, t, L, dn, va, ev, ht, A => by
    have hp : made = most := by omega
    subst hp
    refine ⟨nI made, t, L, dn, va, ev, ht, A, ?_, ?_⟩
    · intro post D dv ws wv G hG C K
      exact dc_dueA (by omega) hE A C (fun z => hG z <| br_t (nI_le (Nat.le_refl made) (by omega)) (K D dv ws wv C))
    · intro post sg vl tm nx R P
      exact br_t (nI_le (Nat.le_refl made) (by omega)) (P sg vl tm nx R)
  | m + 1, made, e, t, L, dn, va, ev, ht, A => by
    have nle : ¬ nI most ≤ nI made := nI_ge (by omega) (by omega)
    by_cases hL : L = []
    · subst hL
      refine ⟨nI made, t, [], dn, va, ev, ht, A, ?_, ?_⟩
      · intro post D dv ws wv G hG C K
        exact dc_dueN (by omega) C (hG _ <| br_f nle (br_t rfl (K D dv ws wv C)))
      · intro post sg vl tm nx R P
        exact br_f nle (br_t (nI_le (a := 0) (b := 0) (by decide) (by decide)) (P sg vl tm nx R))
    · obtain ⟨w, hw, F⟩ := dc_first_ex A.1 hL
      have hne : 0 < L.length := List.length_pos_iff.mpr hL
      have hl := dc_AW_len A
      rcases Nat.lt_or_ge E (t + w) with l | l
      · refine ⟨nI made, t, L, dn, va, ev, ht, A, ?_, ?_⟩
        · intro post D dv ws wv G hG C K
          exact dc_due0 (by omega) hE A C hw F l (hG _ <| br_f nle (br_t rfl (K D dv ws wv C)))
        · intro post sg vl tm nx R P
          refine br_f nle (br_f (nI_nle hne (by omega)) (dc_ynt (by omega) A R F (br_t (nI_lt l (by omega)) (P sg vl tm nx R))))
      · obtain ⟨r1, L1, va1, ev1, A1, sX, sY⟩ := dc_step (va := va) (ev := ev) (cn := cn) (wt := wt) H (by omega) A hw F
        obtain ⟨r, t', L', dn', va', ev', ht', A', hX, hY⟩ := dc_run H hm hE m (made + 1) (by omega) (t + w) L1 (dn + 1) va1 ev1 l A1
        refine ⟨r, t', L', dn', va', ev', ht', A', ?_, ?_⟩
        · intro post D dv ws wv G hG C K
          refine dc_due1 (by omega) hE A C hw F l (hG _ <| br_f nle (br_f (by decide) (sX _ dn D dv ws wv C ?_)))
          intro D' dv' ws' wv' C'
          exact nm_r (nI_1 made) (hX post D' dv' ws' wv' _ (fun _ h => h) C' K)
        · intro post sg vl tm nx R P
          refine br_f nle (br_f (nI_nle hne (by omega)) (dc_ynt (by omega) A R F (br_f (nI_nlt l (by omega)) (sY _ dn sg vl tm nx R ?_))))
          intro sg' vl' tm' nx' R'
          exact nm_r (nI_1 made) (hY post sg' vl' tm' nx' R' P)
end
end
section
theorem dc_dE (x : Int32) : (x >>> ((4 : Int32) &&& 31)) &&& 15 = nI (dc_nib x 1) := by
  have h := dc_nibE x 1
  rw [show (4 * nI 1 : Int32) = 4 from by decide] at h
  exact h
def dc_kk (x : Int32) : Nat := x.toBitVec.toNat % 2 ^ 3
theorem dc_kE (x : Int32) : x &&& 7 = nI (dc_kk x) := pk_and _ 3 (by decide)
theorem dc_kk_lt (x : Int32) : dc_kk x < 8 := Nat.mod_lt _ (by decide)
theorem dc_PF_s {pn : Nat} {kd dl pk op : Nat → Int32} (H : dc_PF pn kd dl pk op) (h8 : pn < 8) {k d : Nat} {v : Int32} (hk : k ≤ 5) (hd : d ≤ 9) (hn : ∀ w, w < 4 → dc_nib v w < 12) :
    dc_PF (pn + 1) (upd kd pn (nI k)) (upd dl pn (nI d)) (upd pk pn v) (upd op pn (v &&& 65535)) := by
  refine ⟨by omega, ?_, ?_⟩
  · intro p hp
    by_cases q : p = pn
    · subst q
      rw [pk_us, pk_us, pk_us]
      exact ⟨⟨k, hk, rfl⟩, ⟨d, hd, rfl⟩, hn⟩
    · rw [pk_un q, pk_un q, pk_un q]
      exact H.2.1 p (by omega)
  · intro p
    by_cases q : p = pn
    · subst q
      rw [pk_us, pk_us]
    · rw [pk_un q, pk_un q]
      exact H.2.2 p
section
variable {pn t : Nat} {dn D : Int32} {va ev kd dl pk cn wt dv ws wv : Nat → Int32} {v1 v2 v3 v4 : Int32} {post : Int32 → SX → Prop}
theorem dc_xprG {b : Nat} (hb : b ≤ 4) (h : ∀ w, w < b → dc_nib v2 w < 12) (K : wX_process_3 post v1 v2 v3 v4 (nI pn) (nI t) dn D va ev kd dl pk cn wt dv ws wv 1 (nI b)) : ∀ m w, w + m = b → wX_process_3 post v1 v2 v3 v4 (nI pn) (nI t) dn D va ev kd dl pk cn wt dv ws wv (m + 1) (nI w)
  | 0, w, e => by
    have hw : w = b := by omega
    subst hw
    exact K
  | m + 1, w, e => by
    refine br_f (nI_ge (b := 4) (by omega) (by decide)) ?_
    rw [dc_nibE]
    exact dc_bad0 (h w (by omega)) (br_t rfl (nm_r (nI_1 w) (dc_xprG hb h K m (w + 1) (by omega))))
theorem dc_xprB {b : Nat} (hb : b < 4) (h : ¬ dc_nib v2 b < 12) (K : post (-1) (nI pn, nI t, dn, D, va, ev, kd, dl, pk, cn, wt, dv, ws, wv)) : wX_process_3 post v1 v2 v3 v4 (nI pn) (nI t) dn D va ev kd dl pk cn wt dv ws wv 1 (nI b) := by
  refine br_f (nI_ge (b := 4) (by omega) (by decide)) ?_
  rw [dc_nibE]
  have l := dc_nib_lt v2 b
  refine dc_bad1 ?_ (br_f (by decide) K)
  intro s hs z
  have := (nI_eq (by omega) (by omega)).mp z
  omega
theorem dc_xpr (h : ∀ w, w < 4 → dc_nib v2 w < 12) (K : wX_process_3 post v1 v2 v3 v4 (nI pn) (nI t) dn D va ev kd dl pk cn wt dv ws wv 1 (nI 4)) : wpX_process post (nI pn, nI t, dn, D, va, ev, kd, dl, pk, cn, wt, dv, ws, wv) v1 v2 v3 v4 := ⟨5, dc_xprG (by decide) h K 4 0 rfl⟩
theorem dc_xprN {b : Nat} (hb : b < 4) (h : ∀ w, w < b → dc_nib v2 w < 12) (hn : ¬ dc_nib v2 b < 12) (K : post (-1) (nI pn, nI t, dn, D, va, ev, kd, dl, pk, cn, wt, dv, ws, wv)) : wpX_process post (nI pn, nI t, dn, D, va, ev, kd, dl, pk, cn, wt, dv, ws, wv) v1 v2 v3 v4 := ⟨b + 1, dc_xprG (by omega) h (dc_xprB hb hn K) b 0 (Nat.zero_add b)⟩
theorem dc_xprK (h : ¬ dc_kk v1 ≤ 5) (K : post (-2) (nI pn, nI t, dn, D, va, ev, kd, dl, pk, cn, wt, dv, ws, wv)) : wX_process_3 post v1 v2 v3 v4 (nI pn) (nI t) dn D va ev kd dl pk cn wt dv ws wv 1 (nI 4) := by
  have l := dc_kk_lt v1
  exact br_t (nI_le (a := 4) (b := 4) (by decide) (by decide)) (nm_r (dc_kE v1) (nm_e (br_f (nI_ge (a := 5) (by omega) (by omega)) K)))
theorem dc_xprD (hk : dc_kk v1 ≤ 5) (h : ¬ dc_nib v1 1 ≤ 9) (K : post (-3) (nI pn, nI t, dn, D, va, ev, kd, dl, pk, cn, wt, dv, ws, wv)) : wX_process_3 post v1 v2 v3 v4 (nI pn) (nI t) dn D va ev kd dl pk cn wt dv ws wv 1 (nI 4) := by
  have l := dc_nib_lt v1 1
  exact br_t (nI_le (a := 4) (b := 4) (by decide) (by decide)) (nm_r (dc_kE v1) (nm_r (dc_dE v1) (br_t (nI_le (b := 5) (by omega) (by decide)) (br_f (nI_ge (a := 9) (by omega) (by omega)) K))))
theorem dc_xprF (hk : dc_kk v1 ≤ 5) (h : dc_nib v1 1 ≤ 9) (h8 : pn = 8) (K : post (-4) (nI pn, nI t, dn, D, va, ev, kd, dl, pk, cn, wt, dv, ws, wv)) : wX_process_3 post v1 v2 v3 v4 (nI pn) (nI t) dn D va ev kd dl pk cn wt dv ws wv 1 (nI 4) := by
  subst h8
  exact br_t (nI_le (a := 4) (b := 4) (by decide) (by decide)) (nm_r (dc_kE v1) (nm_r (dc_dE v1) (br_t (nI_le (b := 5) (by omega) (by decide)) (br_t (nI_le (b := 9) (by omega) (by decide)) (br_f (nI_nlt (a := 8) (b := 8) (by decide) (by decide)) K)))))
theorem dc_xprS (hk : dc_kk v1 ≤ 5) (h : dc_nib v1 1 ≤ 9) (h8 : pn < 8) (K : post (nI pn) (nI (pn + 1), nI t, dn, D, va, ev, upd kd pn (nI (dc_kk v1)), upd dl pn (nI (dc_nib v1 1)), upd pk pn v2, upd cn pn v3, upd wt pn (v4 &&& 4095), dv, ws, wv)) : wX_process_3 post v1 v2 v3 v4 (nI pn) (nI t) dn D va ev kd dl pk cn wt dv ws wv 1 (nI 4) := by
  have ap : vp_in (nI pn) 8 := vp_in_nI h8 (by decide)
  have cp : (nI pn).toNatClampNeg = pn := nI_clamp (by omega)
  refine br_t (nI_le (a := 4) (b := 4) (by decide) (by decide)) (nm_r (dc_kE v1) (nm_r (dc_dE v1) (br_t (nI_le (b := 5) (by omega) (by decide)) (br_t (nI_le (b := 9) (by omega) (by decide)) (br_t (nI_lt (b := 8) h8 (by decide)) ?_)))))
  refine And.intro ap (nm_r (e' := upd kd pn (nI (dc_kk v1))) (by rw [cp]) (And.intro ap (nm_r (e' := upd dl pn (nI (dc_nib v1 1))) (by rw [cp]) (And.intro ap (nm_r (e' := upd pk pn v2) (by rw [cp]) ?_)))))
  exact And.intro ap (nm_r (e' := upd cn pn v3) (by rw [cp]) (And.intro ap (nm_r (e' := upd wt pn (v4 &&& 4095)) (by rw [cp]) (nm_r (nI_1 pn) K))))
end
section
variable {pn : Nat} {c f_now dn : Int32} {va ev kd dl op cn wt sg vl tm nx : Nat → Int32} {v1 v2 v3 v4 : Int32} {post : Int32 → SY → Prop}
theorem dc_yprG {b : Nat} (hb : b ≤ 4) (h : ∀ w, w < b → dc_nib v2 w < 12) (K : wY_process_3 post v1 v2 v3 v4 (nI pn) c f_now dn va ev kd dl op cn wt sg vl tm nx 1 (nI b)) : ∀ m w, w + m = b → wY_process_3 post v1 v2 v3 v4 (nI pn) c f_now dn va ev kd dl op cn wt sg vl tm nx (m + 1) (nI w)
  | 0, w, e => by
    have hw : w = b := by omega
    subst hw
    exact K
  | m + 1, w, e => by
    refine br_f (nI_ge (b := 4) (by omega) (by decide)) ?_
    rw [dc_nibE]
    have := h w (by omega)
    exact br_t (nI_le (b := 11) (by omega) (by decide)) (nm_r (nI_1 w) (dc_yprG hb h K m (w + 1) (by omega)))
theorem dc_yprB {b : Nat} (hb : b < 4) (h : ¬ dc_nib v2 b < 12) (K : post (-1) (nI pn, c, f_now, dn, va, ev, kd, dl, op, cn, wt, sg, vl, tm, nx)) : wY_process_3 post v1 v2 v3 v4 (nI pn) c f_now dn va ev kd dl op cn wt sg vl tm nx 1 (nI b) := by
  refine br_f (nI_ge (b := 4) (by omega) (by decide)) ?_
  rw [dc_nibE]
  have l := dc_nib_lt v2 b
  exact br_f (nI_ge (a := 11) (by omega) (by omega)) K
theorem dc_ypr (h : ∀ w, w < 4 → dc_nib v2 w < 12) (K : wY_process_3 post v1 v2 v3 v4 (nI pn) c f_now dn va ev kd dl op cn wt sg vl tm nx 1 (nI 4)) : wpY_process post (nI pn, c, f_now, dn, va, ev, kd, dl, op, cn, wt, sg, vl, tm, nx) v1 v2 v3 v4 := ⟨5, dc_yprG (by decide) h K 4 0 rfl⟩
theorem dc_yprN {b : Nat} (hb : b < 4) (h : ∀ w, w < b → dc_nib v2 w < 12) (hn : ¬ dc_nib v2 b < 12) (K : post (-1) (nI pn, c, f_now, dn, va, ev, kd, dl, op, cn, wt, sg, vl, tm, nx)) : wpY_process post (nI pn, c, f_now, dn, va, ev, kd, dl, op, cn, wt, sg, vl, tm, nx) v1 v2 v3 v4 := ⟨b + 1, dc_yprG (by omega) h (dc_yprB hb hn K) b 0 (Nat.zero_add b)⟩
theorem dc_yprK (h : ¬ dc_kk v1 ≤ 5) (K : post (-2) (nI pn, c, f_now, dn, va, ev, kd, dl, op, cn, wt, sg, vl, tm, nx)) : wY_process_3 post v1 v2 v3 v4 (nI pn) c f_now dn va ev kd dl op cn wt sg vl tm nx 1 (nI 4) := by
  have l := dc_kk_lt v1
  exact br_t (nI_le (a := 4) (b := 4) (by decide) (by decide)) (br_f (by rw [dc_kE]; exact nI_ge (a := 5) (by omega) (by omega)) K)
theorem dc_yprD (hk : dc_kk v1 ≤ 5) (h : ¬ dc_nib v1 1 ≤ 9) (K : post (-3) (nI pn, c, f_now, dn, va, ev, kd, dl, op, cn, wt, sg, vl, tm, nx)) : wY_process_3 post v1 v2 v3 v4 (nI pn) c f_now dn va ev kd dl op cn wt sg vl tm nx 1 (nI 4) := by
  have l := dc_nib_lt v1 1
  exact br_t (nI_le (a := 4) (b := 4) (by decide) (by decide)) (br_t (by rw [dc_kE]; exact nI_le (b := 5) (by omega) (by decide)) (br_f (by rw [dc_dE]; exact nI_ge (a := 9) (by omega) (by omega)) K))
theorem dc_yprF (hk : dc_kk v1 ≤ 5) (h : dc_nib v1 1 ≤ 9) (h8 : pn = 8) (K : post (-4) (nI pn, c, f_now, dn, va, ev, kd, dl, op, cn, wt, sg, vl, tm, nx)) : wY_process_3 post v1 v2 v3 v4 (nI pn) c f_now dn va ev kd dl op cn wt sg vl tm nx 1 (nI 4) := by
  subst h8
  exact br_t (nI_le (a := 4) (b := 4) (by decide) (by decide)) (br_t (by rw [dc_kE]; exact nI_le (b := 5) (by omega) (by decide)) (br_t (by rw [dc_dE]; exact nI_le (b := 9) (by omega) (by decide)) (br_t rfl K)))
theorem dc_yprS (hk : dc_kk v1 ≤ 5) (h : dc_nib v1 1 ≤ 9) (h8 : pn < 8) (K : post (nI pn) (nI (pn + 1), c, f_now, dn, va, ev, upd kd pn (nI (dc_kk v1)), upd dl pn (nI (dc_nib v1 1)), upd op pn (v2 &&& 65535), upd cn pn v3, upd wt pn (v4 &&& 4095), sg, vl, tm, nx)) : wY_process_3 post v1 v2 v3 v4 (nI pn) c f_now dn va ev kd dl op cn wt sg vl tm nx 1 (nI 4) := by
  have ap : vp_in (nI pn) 8 := vp_in_nI h8 (by decide)
  have cp : (nI pn).toNatClampNeg = pn := nI_clamp (by omega)
  have n8 : ¬ nI pn = 8 := by
    intro z
    have := (nI_eq (b := 8) (by omega) (by decide)).mp z
    omega
  refine br_t (nI_le (a := 4) (b := 4) (by decide) (by decide)) (br_t (by rw [dc_kE]; exact nI_le (b := 5) (by omega) (by decide)) (br_t (by rw [dc_dE]; exact nI_le (b := 9) (by omega) (by decide)) (br_f n8 ?_)))
  refine And.intro ap (nm_r (e' := upd kd pn (nI (dc_kk v1))) (by rw [cp, dc_kE]) (And.intro ap (nm_r (e' := upd dl pn (nI (dc_nib v1 1))) (by rw [cp, dc_dE]) (And.intro ap (nm_r (e' := upd op pn (v2 &&& 65535)) (by rw [cp]) ?_)))))
  refine And.intro ap (nm_r (e' := upd cn pn v3) (by rw [cp]) (And.intro ap (nm_r (e' := upd wt pn (v4 &&& 4095)) (by rw [cp]) (nm_r (nI_1 pn) ?_))))
  rw [nI_pred]
  exact K
end
def dc_z (n : Nat) (f : Nat → Int32) : Nat → Int32 := fun i => if i < n then 0 else f i
theorem dc_z_0 (f : Nat → Int32) : dc_z 0 f = f := funext (fun i => if_neg (Nat.not_lt_zero i))
theorem dc_z_s (n : Nat) (f : Nat → Int32) : upd (dc_z n f) n 0 = dc_z (n + 1) f := by
  funext i
  by_cases q : i = n
  · subst q
    rw [pk_us]
    exact (if_pos (by omega)).symm
  · rw [pk_un q]
    unfold dc_z
    by_cases l : i < n
    · rw [if_pos l, if_pos (by omega)]
    · rw [if_neg l, if_neg (by omega)]
section
variable {pn' a1 a2 a3 : Int32} {va ev kd dl pk cn wt dv ws wv : Nat → Int32} {post : SX → Prop}
theorem dc_xrsB (K : post (pn', a1, a2, a3, dc_z 12 va, dc_z 12 ev, kd, dl, pk, cn, wt, dv, ws, wv)) : ∀ m i, i + m = 12 → wX_reset_38 post pn' a1 a2 a3 (m + 1) (nI i) (dc_z i va) (dc_z i ev) kd dl pk cn wt dv ws wv
  | 0, i, e => by
    have hi : i = 12 := by omega
    subst hi
    exact br_t (nI_le (a := 12) (b := 12) (by decide) (by decide)) K
  | m + 1, i, e => by
    have ai : vp_in (nI i) 12 := vp_in_nI (by omega) (by decide)
    have ci : (nI i).toNatClampNeg = i := nI_clamp (by omega)
    exact br_f (nI_ge (b := 12) (by omega) (by decide)) (And.intro ai (nm_r (e' := dc_z (i + 1) va) (by rw [ci, dc_z_s]) (And.intro ai (nm_r (e' := dc_z (i + 1) ev) (by rw [ci, dc_z_s]) (nm_r (nI_1 i) (dc_xrsB K m (i + 1) (by omega)))))))
theorem dc_xrsA (K : post (pn', a1, a2, a3, dc_z 12 va, dc_z 12 ev, kd, dl, pk, cn, wt, dv, dc_z 10 ws, wv)) : ∀ m i, i + m = 10 → wX_reset_17 post pn' a1 a2 a3 (m + 1) (nI i) va ev kd dl pk cn wt dv (dc_z i ws) wv
  | 0, i, e => by
    have hi : i = 10 := by omega
    subst hi
    have h := dc_xrsB K 12 0 rfl
    rw [dc_z_0, dc_z_0] at h
    exact br_t (nI_le (a := 10) (b := 10) (by decide) (by decide)) ⟨13, h⟩
  | m + 1, i, e => by
    have ai : vp_in (nI i) 10 := vp_in_nI (by omega) (by decide)
    have ci : (nI i).toNatClampNeg = i := nI_clamp (by omega)
    exact br_f (nI_ge (b := 10) (by omega) (by decide)) (And.intro ai (nm_r (e' := dc_z (i + 1) ws) (by rw [ci, dc_z_s]) (nm_r (nI_1 i) (dc_xrsA K m (i + 1) (by omega)))))
theorem dc_xrs {t' dn' D' : Int32} (K : post (pn', 0, 0, 0, dc_z 12 va, dc_z 12 ev, kd, dl, pk, cn, wt, dv, dc_z 10 ws, wv)) : wpX_reset post (pn', t', dn', D', va, ev, kd, dl, pk, cn, wt, dv, ws, wv) := by
  refine ⟨11, ?_⟩
  have h := dc_xrsA K 10 0 rfl
  rw [dc_z_0] at h
  exact h
end
section
variable {pn' a1 a2 a3 : Int32} {va ev kd dl op cn wt sg vl tm nx : Nat → Int32} {post : SY → Prop}
theorem dc_yrsB (K : post (pn', 0, 0, 0, dc_z 12 va, dc_z 12 ev, kd, dl, op, cn, wt, sg, vl, tm, nx)) : ∀ m i, i + m = 12 → wY_reset_2 post pn' a1 a2 a3 (m + 1) (nI i) (dc_z i va) (dc_z i ev) kd dl op cn wt sg vl tm nx
  | 0, i, e => by
    have hi : i = 12 := by omega
    subst hi
    exact br_t (nI_le (a := 12) (b := 12) (by decide) (by decide)) K
  | m + 1, i, e => by
    have ai : vp_in (nI i) 12 := vp_in_nI (by omega) (by decide)
    have ci : (nI i).toNatClampNeg = i := nI_clamp (by omega)
    exact br_f (nI_ge (b := 12) (by omega) (by decide)) (And.intro ai (nm_r (e' := dc_z (i + 1) va) (by rw [ci, dc_z_s]) (And.intro ai (nm_r (e' := dc_z (i + 1) ev) (by rw [ci, dc_z_s]) (nm_r (nI_1 i) (dc_yrsB K m (i + 1) (by omega)))))))
theorem dc_yrs (K : post (pn', 0, 0, 0, dc_z 12 va, dc_z 12 ev, kd, dl, op, cn, wt, sg, vl, tm, nx)) : wpY_reset post (pn', a1, a2, a3, va, ev, kd, dl, op, cn, wt, sg, vl, tm, nx) := by
  refine ⟨13, ?_⟩
  have h := dc_yrsB (a1 := a1) (a2 := a2) (a3 := a3) K 12 0 rfl
  rw [dc_z_0, dc_z_0] at h
  exact h
end
theorem dc_CR_0 {dv ws wv : Nat → Int32} (hb : ∀ j i, 12 ≤ i → bt (ws j) i = false) (hz : ∀ j, j < 10 → ws j = 0) : dc_CR 0 0 dv ws wv [] := by
  refine ⟨fun i _ => b_0 i, hb, fun i => ?_, ?_⟩
  · rw [hz 0 (by decide), b_0]
  · intro s T v hs h1 h2
    constructor
    · intro z
      cases z
    · intro z
      by_cases q : T = 0
      · subst q
        have := dc_Pd_0.mp z
        rw [b_0] at this
        exact absurd this.1 (by decide)
      · have := (dc_Pd_n q).mp z
        rw [hz (T % 10) (by omega), b_0] at this
        exact absurd this.1 (by decide)
theorem dc_CR_rs {t : Nat} {D : Int32} {dv ws wv : Nat → Int32} {L : List dc_E} (C : dc_CR t D dv ws wv L) : dc_CR 0 0 dv (dc_z 10 ws) wv [] := by
  refine dc_CR_0 (fun j i hi => ?_) (fun j hj => if_pos hj)
  unfold dc_z
  by_cases l : j < 10
  · rw [if_pos l, b_0]
  · rw [if_neg l]
    exact C.2.1 j i hi
end
section
def dc_F (k pn t : Nat) (kd dl pk op : Nat → Int32) (D : Int32) (dv ws wv sg vl tm nx : Nat → Int32) (L : List dc_E) : Prop :=
  dc_PF pn kd dl pk op ∧ t ≤ 200 * k ∧ dc_AW t L ∧ dc_CR t D dv ws wv L ∧ dc_RY t sg vl tm nx 0 L
/-- the relation: one list of pending changes, held by X's sets and by Y's arrays -/
def i_Rel (k : Nat) (u : SX) (v : SY) : Prop := ∃ (pn t : Nat) (dn D : Int32) (va ev kd dl pk cn wt dv ws wv op sg vl tm nx : Nat → Int32) (L : List dc_E), u = (nI pn, nI t, dn, D, va, ev, kd, dl, pk, cn, wt, dv, ws, wv) ∧ v = (nI pn, nI L.length, nI t, dn, va, ev, kd, dl, op, cn, wt, sg, vl, tm, nx) ∧ dc_F k pn t kd dl pk op D dv ws wv sg vl tm nx L
theorem dc_el {k : Nat} {P : SX → SY → Prop} (h : ∀ (pn t : Nat) (dn D : Int32) (va ev kd dl pk cn wt dv ws wv op sg vl tm nx : Nat → Int32) (L : List dc_E), dc_F k pn t kd dl pk op D dv ws wv sg vl tm nx L → P (nI pn, nI t, dn, D, va, ev, kd, dl, pk, cn, wt, dv, ws, wv) (nI pn, nI L.length, nI t, dn, va, ev, kd, dl, op, cn, wt, sg, vl, tm, nx)) {u : SX} {v : SY} (I : i_Rel k u v) : P u v := by
  obtain ⟨pn, t, dn, D, va, ev, kd, dl, pk, cn, wt, dv, ws, wv, op, sg, vl, tm, nx, L, rfl, rfl, hF⟩ := I
  exact h pn t dn D va ev kd dl pk cn wt dv ws wv op sg vl tm nx L hF
theorem dc_in {k pn t : Nat} {dn D : Int32} {va ev kd dl pk cn wt dv ws wv op sg vl tm nx : Nat → Int32} {L : List dc_E} (H : dc_PF pn kd dl pk op) (ht : t ≤ 200 * k) (A : dc_AW t L) (C : dc_CR t D dv ws wv L) (R : dc_RY t sg vl tm nx 0 L) : i_Rel k (nI pn, nI t, dn, D, va, ev, kd, dl, pk, cn, wt, dv, ws, wv) (nI pn, nI L.length, nI t, dn, va, ev, kd, dl, op, cn, wt, sg, vl, tm, nx) :=
  ⟨pn, t, dn, D, va, ev, kd, dl, pk, cn, wt, dv, ws, wv, op, sg, vl, tm, nx, L, rfl, rfl, H, ht, A, C, R⟩
theorem i_up {k : Nat} {u : SX} {v : SY} (h : i_Rel k u v) : i_Rel (k + 5) u v := by
  refine dc_el (P := fun u v => i_Rel (k + 5) u v) ?_ h
  intro pn t dn D va ev kd dl pk cn wt dv ws wv op sg vl tm nx L hF
  obtain ⟨H, ht, A, C, R⟩ := hF
  exact dc_in H (by omega) A C R
theorem i_vc0 : wpX_init (fun u => wpY_init (fun v => i_Rel 0 u v)) := by
  have H : dc_PF 0 (fun _ => 0) (fun _ => 0) (fun _ => 0) (fun _ => 0) := ⟨by decide, fun p hp => absurd hp (Nat.not_lt_zero p), fun p => (by decide : (0 : Int32) = 0 &&& 65535)⟩
  exact dc_in (k := 0) (pn := 0) (t := 0) (L := []) H (Nat.le_refl 0) (dc_AW_nil 0) (dc_CR_0 (fun _ i _ => b_0 i) (fun _ _ => rfl)) trivial
end
section
theorem i_vc_value {k : Nat} {u : SX} {v : SY} (I : i_Rel k u v) (hk : k + 5 ≤ 2560) (v1 : Int32) : wpX_value (fun r => wpY_value (fun r' => r' = r ∧ i_Rel (k + 5) u v) v v1) u v1 := by
  refine dc_el (P := fun u v => i_Rel (k + 5) u v → wpX_value (fun r => wpY_value (fun r' => r' = r ∧ i_Rel (k + 5) u v) v v1) u v1) ?_ I (i_up I)
  intro pn t dn D va ev kd dl pk cn wt dv ws wv op sg vl tm nx L hF J
  unfold wpX_value wpY_value
  dsimp only
  rcases dc_sig v1 with ⟨s, hs, rfl⟩ | hb
  · exact dc_bad0 hs (br_t rfl (And.intro (vp_in_nI hs (by decide)) (dc_isg1 hs (br_f (by decide) (And.intro (vp_in_nI hs (by decide)) ⟨rfl, J⟩)))))
  · exact dc_bad1 hb (br_f (by decide) (dc_isg0 hb (br_t rfl ⟨rfl, J⟩)))
theorem i_vc_events {k : Nat} {u : SX} {v : SY} (I : i_Rel k u v) (hk : k + 5 ≤ 2560) (v1 : Int32) : wpX_events (fun r => wpY_events (fun r' => r' = r ∧ i_Rel (k + 5) u v) v v1) u v1 := by
  refine dc_el (P := fun u v => i_Rel (k + 5) u v → wpX_events (fun r => wpY_events (fun r' => r' = r ∧ i_Rel (k + 5) u v) v v1) u v1) ?_ I (i_up I)
  intro pn t dn D va ev kd dl pk cn wt dv ws wv op sg vl tm nx L hF J
  unfold wpX_events wpY_events
  dsimp only
  rcases dc_sig v1 with ⟨s, hs, rfl⟩ | hb
  · exact dc_bad0 hs (br_t rfl (And.intro (vp_in_nI hs (by decide)) (dc_isg1 hs (br_f (by decide) (And.intro (vp_in_nI hs (by decide)) ⟨rfl, J⟩)))))
  · exact dc_bad1 hb (br_f (by decide) (dc_isg0 hb (br_t rfl ⟨rfl, J⟩)))
theorem i_vc_time {k : Nat} {u : SX} {v : SY} (I : i_Rel k u v) (hk : k + 5 ≤ 2560) : wpX_time (fun r => wpY_time (fun r' => r' = r ∧ i_Rel (k + 5) u v) v) u := by
  refine dc_el (P := fun u v => i_Rel (k + 5) u v → wpX_time (fun r => wpY_time (fun r' => r' = r ∧ i_Rel (k + 5) u v) v) u) ?_ I (i_up I)
  intro pn t dn D va ev kd dl pk cn wt dv ws wv op sg vl tm nx L hF J
  exact And.intro rfl J
theorem i_vc_cycles {k : Nat} {u : SX} {v : SY} (I : i_Rel k u v) (hk : k + 5 ≤ 2560) : wpX_cycles (fun r => wpY_cycles (fun r' => r' = r ∧ i_Rel (k + 5) u v) v) u := by
  refine dc_el (P := fun u v => i_Rel (k + 5) u v → wpX_cycles (fun r => wpY_cycles (fun r' => r' = r ∧ i_Rel (k + 5) u v) v) u) ?_ I (i_up I)
  intro pn t dn D va ev kd dl pk cn wt dv ws wv op sg vl tm nx L hF J
  exact And.intro rfl J
theorem i_vc_pending {k : Nat} {u : SX} {v : SY} (I : i_Rel k u v) (hk : k + 5 ≤ 2560) : wpX_pending (fun r => wpY_pending (fun r' => r' = r ∧ i_Rel (k + 5) u v) v) u := by
  refine dc_el (P := fun u v => i_Rel (k + 5) u v → wpX_pending (fun r => wpY_pending (fun r' => r' = r ∧ i_Rel (k + 5) u v) v) u) ?_ I (i_up I)
  intro pn t dn D va ev kd dl pk cn wt dv ws wv op sg vl tm nx L hF J
  obtain ⟨H, ht, A, C, R⟩ := hF
  exact dc_xpen A C (And.intro rfl J)
theorem i_vc_nextTime {k : Nat} {u : SX} {v : SY} (I : i_Rel k u v) (hk : k + 5 ≤ 2560) : wpX_nextTime (fun r => wpY_nextTime (fun r' => r' = r ∧ i_Rel (k + 5) u v) v) u := by
  refine dc_el (P := fun u v => i_Rel (k + 5) u v → wpX_nextTime (fun r => wpY_nextTime (fun r' => r' = r ∧ i_Rel (k + 5) u v) v) u) ?_ I (i_up I)
  intro pn t dn D va ev kd dl pk cn wt dv ws wv op sg vl tm nx L hF J
  obtain ⟨H, ht, A, C, R⟩ := hF
  unfold wpX_nextTime
  dsimp only
  by_cases hL : L = []
  · subst hL
    exact dc_xnu0 (by omega) C (br_f (by decide) (dc_ynt0 ⟨rfl, J⟩))
  · obtain ⟨w, hw, F⟩ := dc_first_ex A.1 hL
    refine dc_xnu (by omega) A C hw F (br_t (nI_pos' (by omega)) (dc_ynt (by omega) A R F ⟨(nI_add t w).symm, J⟩))
theorem i_vc_coming {k : Nat} {u : SX} {v : SY} (I : i_Rel k u v) (hk : k + 5 ≤ 2560) (v1 : Int32) : wpX_coming (fun r => wpY_coming (fun r' => r' = r ∧ i_Rel (k + 5) u v) v v1) u v1 := by
  refine dc_el (P := fun u v => i_Rel (k + 5) u v → wpX_coming (fun r => wpY_coming (fun r' => r' = r ∧ i_Rel (k + 5) u v) v v1) u v1) ?_ I (i_up I)
  intro pn t dn D va ev kd dl pk cn wt dv ws wv op sg vl tm nx L hF J
  obtain ⟨H, ht, A, C, R⟩ := hF
  rcases dc_sig v1 with ⟨s, hs, rfl⟩ | hb
  · by_cases c : ∃ e, e ∈ L ∧ e.1 = s
    · obtain ⟨T, v, m, l⟩ := dc_min_ex L c
      exact dc_xcom (by omega) A C m l (dc_ycom (by omega) A R m l ⟨rfl, J⟩)
    · refine dc_xcom0 (by omega) hs C (fun e he q => c ⟨e, he, q⟩) (dc_ycom0 A R ?_ ⟨rfl, J⟩)
      intro e he q
      have b := A.1 e he
      exact c ⟨e, he, (nI_eq (by omega) (by omega)).mp q⟩
  · unfold wpX_coming
    dsimp only
    refine dc_bad1 hb (br_f (by decide) (dc_ycom0 A R ?_ ⟨rfl, J⟩))
    intro e he q
    exact hb e.1 (A.1 e he).1 q.symm
theorem i_vc_reset {k : Nat} {u : SX} {v : SY} (I : i_Rel k u v) (hk : k + 5 ≤ 2560) : wpX_reset (fun u' => wpY_reset (fun v' => i_Rel (k + 5) u' v') v) u := by
  refine dc_el (P := fun u v => wpX_reset (fun u' => wpY_reset (fun v' => i_Rel (k + 5) u' v') v) u) ?_ I
  intro pn t dn D va ev kd dl pk cn wt dv ws wv op sg vl tm nx L hF
  obtain ⟨H, ht, A, C, R⟩ := hF
  exact dc_xrs (dc_yrs (dc_in (t := 0) (L := []) H (by omega) (dc_AW_nil 0) (dc_CR_rs C) trivial))
end
section
theorem i_vc_process {k : Nat} {u : SX} {v : SY} (I : i_Rel k u v) (hk : k + 5 ≤ 2560) (v1 : Int32) (v2 : Int32) (v3 : Int32) (v4 : Int32) : wpX_process (fun r u' => wpY_process (fun r' v' => r' = r ∧ i_Rel (k + 5) u' v') v v1 v2 v3 v4) u v1 v2 v3 v4 := by
  refine dc_el (P := fun u v => i_Rel (k + 5) u v → wpX_process (fun r u' => wpY_process (fun r' v' => r' = r ∧ i_Rel (k + 5) u' v') v v1 v2 v3 v4) u v1 v2 v3 v4) ?_ I (i_up I)
  intro pn t dn D va ev kd dl pk cn wt dv ws wv op sg vl tm nx L hF J
  obtain ⟨H, ht, A, C, R⟩ := hF
  have h8 := H.1
  have bad : ∀ b, b < 4 → (∀ w, w < b → dc_nib v2 w < 12) → ¬ dc_nib v2 b < 12 → wpX_process (fun r u' => wpY_process (fun r' v' => r' = r ∧ i_Rel (k + 5) u' v') (nI pn, nI L.length, nI t, dn, va, ev, kd, dl, op, cn, wt, sg, vl, tm, nx) v1 v2 v3 v4) (nI pn, nI t, dn, D, va, ev, kd, dl, pk, cn, wt, dv, ws, wv) v1 v2 v3 v4 := by
    intro b hb h hn
    exact dc_xprN hb h hn (dc_yprN hb h hn ⟨rfl, J⟩)
  by_cases n0 : dc_nib v2 0 < 12
  · by_cases n1 : dc_nib v2 1 < 12
    · by_cases n2 : dc_nib v2 2 < 12
      · by_cases n3 : dc_nib v2 3 < 12
        · have hn : ∀ w, w < 4 → dc_nib v2 w < 12 := by
            intro w hw
            rcases (by omega : w = 0 ∨ w = 1 ∨ w = 2 ∨ w = 3) with z | z | z | z <;> subst z <;> assumption
          refine dc_xpr hn ?_
          by_cases hk5 : dc_kk v1 ≤ 5
          · by_cases hd : dc_nib v1 1 ≤ 9
            · by_cases e8 : pn = 8
              · exact dc_xprF hk5 hd e8 (dc_ypr hn (dc_yprF hk5 hd e8 ⟨rfl, J⟩))
              · refine dc_xprS hk5 hd (by omega) (dc_ypr hn (dc_yprS hk5 hd (by omega) ⟨rfl, ?_⟩))
                exact dc_in (dc_PF_s H (by omega) hk5 hd hn) (by omega) A C R
            · exact dc_xprD hk5 hd (dc_ypr hn (dc_yprD hk5 hd ⟨rfl, J⟩))
          · exact dc_xprK hk5 (dc_ypr hn (dc_yprK hk5 ⟨rfl, J⟩))
        · exact bad 3 (by decide) (fun w hw => by rcases (by omega : w = 0 ∨ w = 1 ∨ w = 2) with z | z | z <;> subst z <;> assumption) n3
      · exact bad 2 (by decide) (fun w hw => by rcases (by omega : w = 0 ∨ w = 1) with z | z <;> subst z <;> assumption) n2
    · refine bad 1 (by decide) ?_ n1
      intro w hw
      have z : w = 0 := by omega
      subst z
      exact n0
  · exact bad 0 (by decide) (fun w hw => absurd hw (Nat.not_lt_zero w)) n0
theorem i_vc_drive {k : Nat} {u : SX} {v : SY} (I : i_Rel k u v) (hk : k + 5 ≤ 2560) (v1 : Int32) (v2 : Int32) (v3 : Int32) : wpX_drive (fun r u' => wpY_drive (fun r' v' => r' = r ∧ i_Rel (k + 5) u' v') v v1 v2 v3) u v1 v2 v3 := by
  refine dc_el (P := fun u v => i_Rel (k + 5) u v → wpX_drive (fun r u' => wpY_drive (fun r' v' => r' = r ∧ i_Rel (k + 5) u' v') v v1 v2 v3) u v1 v2 v3) ?_ I (i_up I)
  intro pn t dn D va ev kd dl pk cn wt dv ws wv op sg vl tm nx L hF J
  obtain ⟨H, ht, A, C, R⟩ := hF
  unfold wpX_drive wpY_drive
  dsimp only
  rcases dc_sig v1 with ⟨s, hs, rfl⟩ | hb
  · refine dc_bad0 hs (br_t rfl ?_)
    by_cases h3 : v3 < 0
    · exact br_t h3 (dc_isg1 hs (br_f (by decide) (br_t h3 ⟨rfl, J⟩)))
    · by_cases h9 : v3 ≤ 9
      · obtain ⟨d, hd, rfl⟩ := nI_of2 (M := 9) (n := 9) (by decide) h3 h9
        refine br_f h3 (br_t h9 (dc_xput hs hd (by omega) C ?_))
        intro D' dv' ws' wv' C'
        have A' : dc_AW t (dc_put L s (t + d) v2) := dc_AW_put hs hd A
        refine dc_xpen A' C' (dc_isg1 hs (br_f (by decide) (br_f h3 (br_t h9 (dc_yput hs hd (by omega) A R ?_)))))
        intro sg' vl' tm' nx' R'
        exact And.intro rfl (dc_in H (by omega) A' C' R')
      · exact br_f h3 (br_f h9 (dc_isg1 hs (br_f (by decide) (br_f h3 (br_f h9 ⟨rfl, J⟩)))))
  · exact dc_bad1 hb (br_f (by decide) (dc_isg0 hb (br_t rfl ⟨rfl, J⟩)))
theorem i_vc_poke {k : Nat} {u : SX} {v : SY} (I : i_Rel k u v) (hk : k + 5 ≤ 2560) (v1 : Int32) : wpX_poke (fun r u' => wpY_poke (fun r' v' => r' = r ∧ i_Rel (k + 5) u' v') v v1) u v1 := by
  refine dc_el (P := fun u v => i_Rel (k + 5) u v → wpX_poke (fun r u' => wpY_poke (fun r' v' => r' = r ∧ i_Rel (k + 5) u' v') v v1) u v1) ?_ I (i_up I)
  intro pn t dn D va ev kd dl pk cn wt dv ws wv op sg vl tm nx L hF J
  obtain ⟨H, ht, A, C, R⟩ := hF
  have h8 := H.1
  by_cases h0 : v1 < 0
  · exact br_t h0 (br_t h0 ⟨rfl, J⟩)
  · obtain ⟨p, hp, rfl⟩ := nI_of h0
    by_cases l : p < pn
    · have hl : nI p < nI pn := nI_lt l (by omega)
      obtain ⟨s, d, v, hs, hd, cX, cY⟩ := dc_co (va := va) (cn := cn) (wt := wt) H l
      refine br_f h0 (br_t hl (cX _ t dn D ev dv ws wv L (by omega) C ?_))
      intro D' dv' ws' wv' C'
      have A' : dc_AW t (dc_put L s (t + d) v) := dc_AW_put hs hd A
      refine dc_xpen A' C' (br_f h0 (br_t hl (cY _ t dn ev sg vl tm nx L (by omega) A R ?_)))
      intro sg' vl' tm' nx' R'
      exact And.intro rfl (dc_in H (by omega) A' C' R')
    · have hl : ¬ nI p < nI pn := nI_nlt (by omega) hp
      exact br_f h0 (br_f hl (br_f h0 (br_f hl ⟨rfl, J⟩)))
theorem i_vc_step {k : Nat} {u : SX} {v : SY} (I : i_Rel k u v) (hk : k + 5 ≤ 2560) : wpX_step (fun r u' => wpY_step (fun r' v' => r' = r ∧ i_Rel (k + 5) u' v') v) u := by
  refine dc_el (P := fun u v => i_Rel (k + 5) u v → wpX_step (fun r u' => wpY_step (fun r' v' => r' = r ∧ i_Rel (k + 5) u' v') v) u) ?_ I (i_up I)
  intro pn t dn D va ev kd dl pk cn wt dv ws wv op sg vl tm nx L hF J
  obtain ⟨H, ht, A, C, R⟩ := hF
  by_cases hL : L = []
  · subst hL
    exact dc_xstep0 (by omega) C (dc_ystep0 ⟨rfl, J⟩)
  · obtain ⟨w, hw, F⟩ := dc_first_ex A.1 hL
    obtain ⟨r, L', va', ev', A', sX, sY⟩ := dc_step (va := va) (ev := ev) (cn := cn) (wt := wt) H (by omega) A hw F
    refine sX _ dn D dv ws wv C ?_
    intro D' dv' ws' wv' C'
    refine sY _ dn sg vl tm nx R ?_
    intro sg' vl' tm' nx' R'
    exact And.intro rfl (dc_in H (by omega) A' C' R')
theorem dc_runJ {k : Nat} {pn t : Nat} {dn D : Int32} {va ev kd dl pk cn wt dv ws wv op sg vl tm nx : Nat → Int32} {L : List dc_E} (hk : k + 5 ≤ 2560) (hF : dc_F k pn t kd dl pk op D dv ws wv sg vl tm nx L) {far most : Nat} (hf : far ≤ 1000) (hm : most ≤ 200) :
    ∃ r, ∃ PY : SY → Prop, (∀ post : Int32 → SX → Prop, (∀ u', (∀ v', PY v' → i_Rel (k + 5) u' v') → post r u') → wX_run_39 post (nI most) (nI far) (nI pn) (nI t) dn D va ev kd dl pk cn wt dv ws wv) ∧ (∀ post : Int32 → SY → Prop, (∀ v', PY v' → post r v') → ∃ n, wY_run_55 post (nI (t + far)) (nI most) n 0 (nI pn) (nI L.length) (nI t) dn va ev kd dl op cn wt sg vl tm nx) := by
  obtain ⟨H, ht, A, C, R⟩ := hF
  obtain ⟨r, t', L', dn', va', ev', ht', A', hX, hY⟩ := dc_run (cn := cn) (wt := wt) H (most := most) (E := t + far) hm (by omega) most 0 (Nat.zero_add most) t L dn va ev (by omega) A
  refine ⟨r, fun v' => ∃ sg' vl' tm' nx', dc_RY t' sg' vl' tm' nx' 0 L' ∧ v' = (nI pn, nI L'.length, nI t', dn', va', ev', kd, dl, op, cn, wt, sg', vl', tm', nx'), ?_, ?_⟩
  · intro post K
    refine nm_r (nI_add t far) ?_
    refine hX post D dv ws wv _ (fun z h => ⟨most + 1, h⟩) C ?_
    intro D' dv' ws' wv' C'
    refine K _ ?_
    intro v' hv
    obtain ⟨sg', vl', tm', nx', R', rfl⟩ := hv
    exact dc_in H (by omega) A' C' R'
  · intro post K
    exact ⟨most + 1, hY post sg vl tm nx R (fun sg' vl' tm' nx' R' => K _ ⟨sg', vl', tm', nx', R', rfl⟩)⟩
section
variable {pn t : Nat} {dn D : Int32} {va ev kd dl pk cn wt dv ws wv op sg vl tm nx : Nat → Int32} {L : List dc_E}
theorem dc_far (p0 : Int32) : ∃ far : Nat, far ≤ 1000 ∧ (∀ (post : Int32 → SX → Prop) (z : Int32), wX_run_39 post z (nI far) (nI pn) (nI t) dn D va ev kd dl pk cn wt dv ws wv → wX_run_14 post p0 z (nI pn) (nI t) dn D va ev kd dl pk cn wt dv ws wv) ∧ (∀ (post : Int32 → SY → Prop) (p1 : Int32), wY_run_26 post p1 (nI far) (nI t) (nI pn) (nI L.length) (nI t) dn va ev kd dl op cn wt sg vl tm nx → wpY_run post (nI pn, nI L.length, nI t, dn, va, ev, kd, dl, op, cn, wt, sg, vl, tm, nx) p0 p1) := by
  by_cases h0 : 0 ≤ p0
  · by_cases h1 : p0 ≤ 1000
    · obtain ⟨far, hf, rfl⟩ := nI_of2 (M := 1000) (n := 1000) (by decide) (Int32.not_lt.mpr h0) h1
      exact ⟨far, hf, fun post z h => br_t h0 (br_t h1 h), fun post p1 h => br_t h0 (br_t h1 h)⟩
    · exact ⟨1000, Nat.le_refl _, fun post z h => br_t h0 (br_f h1 h), fun post p1 h => br_t h0 (br_f h1 h)⟩
  · exact ⟨0, by decide, fun post z h => br_f h0 (br_t (by decide) h), fun post p1 h => br_f h0 h⟩
theorem dc_most {p1 : Int32} (h0 : 0 ≤ p1) : ∃ most : Nat, most ≤ 200 ∧ (∀ (post : Int32 → SX → Prop) (p0 : Int32), wX_run_14 post p0 (nI most) (nI pn) (nI t) dn D va ev kd dl pk cn wt dv ws wv → wpX_run post (nI pn, nI t, dn, D, va, ev, kd, dl, pk, cn, wt, dv, ws, wv) p0 p1) ∧ (∀ (post : Int32 → SY → Prop) (far : Nat), (∃ n, wY_run_55 post (nI (t + far)) (nI most) n 0 (nI pn) (nI L.length) (nI t) dn va ev kd dl op cn wt sg vl tm nx) → wY_run_26 post p1 (nI far) (nI t) (nI pn) (nI L.length) (nI t) dn va ev kd dl op cn wt sg vl tm nx) := by
  by_cases h1 : p1 ≤ 200
  · obtain ⟨most, hm, rfl⟩ := nI_of2 (M := 200) (n := 200) (by decide) (Int32.not_lt.mpr h0) h1
    exact ⟨most, hm, fun post p0 h => br_t h1 h, fun post far h => nm_r (nI_add t far) (br_t h0 (br_t h1 h))⟩
  · exact ⟨200, Nat.le_refl _, fun post p0 h => br_f h1 h, fun post far h => nm_r (nI_add t far) (br_t h0 (br_f h1 h))⟩
end
theorem i_vc_run {k : Nat} {u : SX} {v : SY} (I : i_Rel k u v) (hk : k + 5 ≤ 2560) (v1 : Int32) (v2 : Int32) : wpX_run (fun r u' => wpY_run (fun r' v' => r' = r ∧ i_Rel (k + 5) u' v') v v1 v2) u v1 v2 := by
  refine dc_el (P := fun u v => i_Rel (k + 5) u v → wpX_run (fun r u' => wpY_run (fun r' v' => r' = r ∧ i_Rel (k + 5) u' v') v v1 v2) u v1 v2) ?_ I (i_up I)
  intro pn t dn D va ev kd dl pk cn wt dv ws wv op sg vl tm nx L hF J
  obtain ⟨far, hf, fX, fY⟩ := dc_far (pn := pn) (t := t) (dn := dn) (D := D) (va := va) (ev := ev) (kd := kd) (dl := dl) (pk := pk) (cn := cn) (wt := wt) (dv := dv) (ws := ws) (wv := wv) (op := op) (sg := sg) (vl := vl) (tm := tm) (nx := nx) (L := L) v1
  by_cases h0 : 0 ≤ v2
  · obtain ⟨most, hm, mX, mY⟩ := dc_most (pn := pn) (t := t) (dn := dn) (D := D) (va := va) (ev := ev) (kd := kd) (dl := dl) (pk := pk) (cn := cn) (wt := wt) (dv := dv) (ws := ws) (wv := wv) (op := op) (sg := sg) (vl := vl) (tm := tm) (nx := nx) (L := L) h0
    obtain ⟨r, PY, hX, hY⟩ := dc_runJ (dn := dn) (va := va) (ev := ev) (cn := cn) (wt := wt) hk hF hf hm
    refine mX _ v1 (fX _ _ (hX _ ?_))
    intro u' hu
    exact fY _ _ (mY _ far (hY _ (fun v' hv => ⟨rfl, hu v' hv⟩)))
  · obtain ⟨H, ht, A, C, R⟩ := hF
    have hle : v2 ≤ 0 := by
      rcases Int32.le_total v2 0 with z | z
      · exact z
      · exact absurd z h0
    refine br_t (Int32.le_trans hle (by decide)) (fX _ _ (nm_r (nI_add t far) (dc_dueA (by omega) (by omega) A C ?_)))
    intro z
    exact ⟨1, br_t hle (fY _ _ (nm_r (nI_add t far) (br_f h0 ⟨1, br_t (nI_le (a := 0) (b := 0) (by decide) (by decide)) ⟨rfl, J⟩⟩)))⟩
end
