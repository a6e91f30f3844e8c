section
/-! rows pasted from the kit (starting text) -/
theorem pk_us {f : Nat → Int32} {k : Nat} {x : Int32} : upd f k x k = x := if_pos rfl
theorem pk_un {f : Nat → Int32} {k j : Nat} {x : Int32} (h : j ≠ k) : upd f k x j = f j := if_neg h
theorem pk_sub {a b : Nat} (h : b ≤ a) : nI a - nI b = nI (a - b) := by
  obtain ⟨c, rfl⟩ : ∃ c, a = c + b := ⟨a - b, by omega⟩
  rw [← nI_add, Int32.add_sub_cancel, Nat.add_sub_cancel]
theorem pk_m1 (n : Nat) : nI (n + 1) + (-1) = nI n := by
  rw [← nI_1, Int32.add_assoc, show (1 : Int32) + (-1) = 0 from rfl, Int32.add_zero]
theorem pk_mul (a b : Nat) : nI a * nI b = nI (a * b) := (Int32.ofNat_mul a b).symm
theorem pk_div {a d : Nat} (ha : a < 2 ^ 31) (h0 : 0 < d) (hd : d < 2 ^ 31) : nI a / nI d = nI (a / d) := by
  apply Int32.toInt_inj.mp
  rw [lg_idiv_nonneg (by rw [nI_toInt ha]; omega) (by rw [nI_toInt hd]; omega), nI_toInt ha, nI_toInt hd, nI_toInt (Nat.lt_of_le_of_lt (Nat.div_le_self a d) ha)]
  first | rfl | exact (Int.natCast_ediv _ _).symm
theorem pk_rem {a d : Nat} (ha : a < 2 ^ 31) (h0 : 0 < d) (hd : d < 2 ^ 31) : nI a - nI a / nI d * nI d = nI (a % d) := by
  rw [pk_div ha h0 hd, pk_mul, pk_sub (Nat.div_mul_le_self a d)]
  exact congrArg nI (by have := Nat.div_add_mod' a d; omega)
theorem pk_sub_toInt {a b : Nat} (ha : a < 2 ^ 30) (hb : b < 2 ^ 30) : (nI a - nI b).toInt = (a : Int) - b := by
  rw [Int32.toInt_sub, nI_toInt (by omega), nI_toInt (by omega)]
  exact Int.bmod_eq_of_le (by omega) (by omega)
theorem pk_sneg {a b : Nat} (hb : b < 2 ^ 30) (h : a < b) : nI a - nI b < 0 := by
  rw [Int32.lt_iff_toInt_lt, pk_sub_toInt (by omega) hb, show (0 : Int32).toInt = 0 from by decide]
  omega
theorem pk_ix (x : Int32) {n : Nat} (hn : n < 2 ^ 31) : x < 0 ∨ nI n ≤ x ∨ ∃ j : Nat, j < n ∧ x = nI j := by
  by_cases h : x < 0
  · exact Or.inl h
  · obtain ⟨j, hj, rfl⟩ := nI_of h
    by_cases h2 : j < n
    · exact Or.inr (Or.inr ⟨j, h2, rfl⟩)
    · exact Or.inr (Or.inl (nI_le (by omega) hj))
theorem pk_le {x y : Int32} {A B : Prop} (a b : Nat) (f : a ≤ b → A) (g : b < a → B) (hx : x = nI a := by rfl) (hy : y = nI b := by rfl) (ha : a < 2 ^ 31 := by omega) (hb : b < 2 ^ 31 := by omega) : (x ≤ y → A) ∧ (¬ x ≤ y → B) := by
  subst hx hy
  rw [nI_leI ha hb]
  exact ⟨f, fun z => g (by omega)⟩
theorem pk_lt {x y : Int32} {A B : Prop} (a b : Nat) (f : a < b → A) (g : b ≤ a → B) (hx : x = nI a := by rfl) (hy : y = nI b := by rfl) (ha : a < 2 ^ 31 := by omega) (hb : b < 2 ^ 31 := by omega) : (x < y → A) ∧ (¬ x < y → B) := by
  subst hx hy
  rw [nI_ltI ha hb]
  exact ⟨f, fun z => g (by omega)⟩
theorem pk_eq {x y : Int32} {A B : Prop} (a b : Nat) (f : a = b → A) (g : a ≠ b → B) (hx : x = nI a := by rfl) (hy : y = nI b := by rfl) (ha : a < 2 ^ 31 := by omega) (hb : b < 2 ^ 31 := by omega) : (x = y → A) ∧ (¬ x = y → B) := by
  subst hx hy
  rw [nI_eq ha hb]
  exact ⟨f, g⟩
theorem pk_in {x : Int32} (n N : Nat) (h : n < N) (hx : x = nI n := by rfl) (hN : N < 2 ^ 31 := by omega) : vp_in x N := by
  subst hx
  exact vp_in_nI h hN
theorem pk_cl {x : Int32} (n : Nat) (hx : x = nI n := by rfl) (h : n < 2 ^ 31 := by omega) : x.toNatClampNeg = n := by
  subst hx
  exact nI_clamp h
theorem pk_tn {n : Nat} (h : n < 2 ^ 32) : (nI n).toBitVec.toNat = n := Nat.mod_eq_of_lt h
theorem pk_and (x : Int32) {m : Int32} (k : Nat) (hm : m.toBitVec.toNat = 2 ^ k - 1) : x &&& m = nI (x.toBitVec.toNat % 2 ^ k) := by
  apply Int32.toBitVec_inj.mp
  apply BitVec.eq_of_toNat_eq
  rw [Int32.toBitVec_and, BitVec.toNat_and, hm, Nat.and_two_pow_sub_one_eq_mod]
  show _ = (BitVec.ofNat 32 _).toNat
  rw [BitVec.toNat_ofNat]
  exact (Nat.mod_eq_of_lt (Nat.lt_of_le_of_lt (Nat.mod_le _ _) x.toBitVec.isLt)).symm
theorem pk_andN {n : Nat} (h : n < 2 ^ 32) {m : Int32} (k : Nat) (hm : m.toBitVec.toNat = 2 ^ k - 1) : nI n &&& m = nI (n % 2 ^ k) := by
  rw [pk_and _ k hm, pk_tn h]
theorem pk_andE (x : Int32) {m : Int32} (k : Nat) (hm : m.toBitVec.toNat = 2 ^ k - 1) : ∃ j : Nat, j < 2 ^ k ∧ x &&& m = nI j := ⟨_, Nat.mod_lt _ (Nat.two_pow_pos k), pk_and x k hm⟩
theorem pk_andIn (x : Int32) {m : Int32} (k : Nat) (hm : m.toBitVec.toNat = 2 ^ k - 1) (hk : k ≤ 30) : vp_in (x &&& m) (2 ^ k) := by
  obtain ⟨j, hj, e⟩ := pk_andE x k hm
  rw [e]
  exact vp_in_nI hj (Nat.lt_of_le_of_lt (Nat.pow_le_pow_right (by decide) hk) (by decide))
theorem pk_shl (a s : Int32) (k : Nat) (hs : (s.toBitVec.smod 32).toNat = k) : (a <<< s).toBitVec.toNat = a.toBitVec.toNat * 2 ^ k % 2 ^ 32 := by
  show (a.toBitVec <<< (s.toBitVec.smod 32).toNat).toNat = _
  rw [hs, BitVec.toNat_shiftLeft, Nat.shiftLeft_eq]
theorem pk_shlN {n : Nat} (s : Int32) (k : Nat) (hs : (s.toBitVec.smod 32).toNat = k) (h : n * 2 ^ k < 2 ^ 32) : nI n <<< s = nI (n * 2 ^ k) := by
  apply Int32.toBitVec_inj.mp
  apply BitVec.eq_of_toNat_eq
  have hn : n < 2 ^ 32 := Nat.lt_of_le_of_lt (Nat.le_mul_of_pos_right n (Nat.two_pow_pos k)) h
  rw [pk_shl _ _ k hs, pk_tn hn, pk_tn h, Nat.mod_eq_of_lt h]
theorem pk_shr (a s : Int32) (k : Nat) (hs : (s.toBitVec.smod 32).toNat = k) : (a >>> s).toInt = a.toInt >>> k := by
  show (a.toBitVec.sshiftRight (s.toBitVec.smod 32).toNat).toInt = _
  rw [hs, BitVec.toInt_sshiftRight]
  rfl
theorem pk_shrN {n : Nat} (h : n < 2 ^ 31) (s : Int32) (k : Nat) (hs : (s.toBitVec.smod 32).toNat = k) : nI n >>> s = nI (n / 2 ^ k) := by
  apply Int32.toInt_inj.mp
  have h2 : n / 2 ^ k ≤ n := Nat.div_le_self _ _
  rw [pk_shr _ _ k hs, nI_toInt h, nI_toInt (by omega), Int.shiftRight_eq_div_pow]
  rfl
theorem pk_ushr (x s : Int32) (k : Nat) (hs : ((s.toUInt32 &&& Int32.toUInt32 31).toBitVec % 32).toNat = k) : (x.toUInt32 >>> (s.toUInt32 &&& Int32.toUInt32 31)).toInt32.toBitVec.toNat = x.toBitVec.toNat / 2 ^ k := by
  have e : (x.toUInt32 >>> (s.toUInt32 &&& Int32.toUInt32 31)).toInt32.toBitVec = x.toBitVec >>> k := by
    rw [← hs]
    exact UInt32.toBitVec_shiftRight _ _
  rw [e, BitVec.toNat_ushiftRight, Nat.shiftRight_eq_div_pow]
theorem pk_ushrN {n : Nat} (hn : n < 2 ^ 32) (s : Int32) (k : Nat) (hs : ((s.toUInt32 &&& Int32.toUInt32 31).toBitVec % 32).toNat = k) : ((nI n).toUInt32 >>> (s.toUInt32 &&& Int32.toUInt32 31)).toInt32 = nI (n / 2 ^ k) := by
  apply Int32.toBitVec_inj.mp
  apply BitVec.eq_of_toNat_eq
  rw [pk_ushr _ s k hs, pk_tn hn, pk_tn (Nat.lt_of_le_of_lt (Nat.div_le_self _ _) hn)]
def bt (x : Int32) (i : Nat) : Bool := x.toBitVec.getLsbD i
theorem b_ext {x y : Int32} (h : ∀ i, i < 32 → bt x i = bt y i) : x = y := Int32.toBitVec_inj.mp (BitVec.eq_of_getLsbD_eq (fun i hi => h i hi))
theorem b_or (x y : Int32) (i : Nat) : bt (x ||| y) i = (bt x i || bt y i) := by unfold bt; rw [Int32.toBitVec_or, BitVec.getLsbD_or]
theorem b_and (x y : Int32) (i : Nat) : bt (x &&& y) i = (bt x i && bt y i) := by unfold bt; rw [Int32.toBitVec_and, BitVec.getLsbD_and]
theorem b_xor (x y : Int32) (i : Nat) : bt (x ^^^ y) i = (bt x i ^^ bt y i) := by unfold bt; rw [Int32.toBitVec_xor, BitVec.getLsbD_xor]
theorem b_big {x : Int32} {i : Nat} (h : 32 ≤ i) : bt x i = false := BitVec.getLsbD_of_ge _ _ h
theorem b_255 (i : Nat) : bt 255 i = decide (i < 8) := by
  rcases Nat.lt_or_ge i 32 with h | h
  · exact (by decide +kernel : ∀ i, i < 32 → bt 255 i = decide (i < 8)) i h
  · rw [b_big h, decide_eq_false (by omega)]
theorem b_65535 (i : Nat) : bt 65535 i = decide (i < 16) := by
  rcases Nat.lt_or_ge i 32 with h | h
  · exact (by decide +kernel : ∀ i, i < 32 → bt 65535 i = decide (i < 16)) i h
  · rw [b_big h, decide_eq_false (by omega)]
theorem b_m1 : ∀ i, i < 32 → bt (-1) i = true := by decide +kernel
theorem b_0 (i : Nat) : bt 0 i = false := BitVec.getLsbD_zero
theorem s_l : ∀ n, n < 32 → ((nI n &&& 31).toBitVec.smod 32).toNat = n := by decide +kernel
theorem s_u : ∀ n, n < 32 → (((nI n).toUInt32 &&& Int32.toUInt32 31).toBitVec % 32).toNat = n := by decide +kernel
theorem b_shl (n : Nat) (hn : n < 32) (x : Int32) {i : Nat} (hi : i < 32) : bt (x <<< (nI n &&& 31)) i = (decide (n ≤ i) && bt x (i - n)) := by
  unfold bt
  rw [Int32.toBitVec_shiftLeft]
  show (x.toBitVec <<< ((nI n &&& 31).toBitVec.smod 32).toNat).getLsbD i = _
  rw [s_l n hn, BitVec.getLsbD_shiftLeft]
  rcases Nat.lt_or_ge i n with h | h
  · simp [h, Nat.not_le.mpr h]
  · simp [hi, h, Nat.not_lt.mpr h]
theorem b_ushr (n : Nat) (hn : n < 32) (x : Int32) (i : Nat) : bt ((x.toUInt32 >>> ((nI n).toUInt32 &&& Int32.toUInt32 31)).toInt32) i = bt x (n + i) := by
  show (x.toUInt32 >>> ((nI n).toUInt32 &&& Int32.toUInt32 31)).toBitVec.getLsbD i = x.toUInt32.toBitVec.getLsbD (n + i)
  rw [UInt32.toBitVec_shiftRight]
  show (x.toUInt32.toBitVec >>> (((nI n).toUInt32 &&& Int32.toUInt32 31).toBitVec % 32).toNat).getLsbD i = _
  rw [s_u n hn, BitVec.getLsbD_ushiftRight]
theorem b_sshr (n : Nat) (hn : n < 32) (x : Int32) {i : Nat} (hi : i < 32) : bt (x >>> (nI n &&& 31)) i = if n + i < 32 then bt x (n + i) else bt x 31 := by
  unfold bt
  rw [Int32.toBitVec_shiftRight]
  show (x.toBitVec.sshiftRight ((nI n &&& 31).toBitVec.smod 32).toNat).getLsbD i = _
  rw [s_l n hn, BitVec.getLsbD_sshiftRight, BitVec.msb_eq_getLsbD_last]
  simp [hi]
theorem b_shl8 (x : Int32) {i : Nat} (hi : i < 32) : bt (x <<< ((8 : Int32) &&& 31)) i = (decide (8 ≤ i) && bt x (i - 8)) := b_shl 8 (by omega) x hi
theorem b_shl16 (x : Int32) {i : Nat} (hi : i < 32) : bt (x <<< ((16 : Int32) &&& 31)) i = (decide (16 ≤ i) && bt x (i - 16)) := b_shl 16 (by omega) x hi
theorem b_shl24 (x : Int32) {i : Nat} (hi : i < 32) : bt (x <<< ((24 : Int32) &&& 31)) i = (decide (24 ≤ i) && bt x (i - 24)) := b_shl 24 (by omega) x hi
theorem b_sshr8 (x : Int32) {i : Nat} (hi : i < 32) : bt (x >>> ((8 : Int32) &&& 31)) i = if 8 + i < 32 then bt x (8 + i) else bt x 31 := b_sshr 8 (by omega) x hi
end
section
/-! ===== masks as sets of bits ===== -/
def zb_ls (m : Int32) : List Nat := (List.range 32).filter (fun i => bt m i)
theorem zb_mem {m : Int32} {i : Nat} : i ∈ zb_ls m ↔ i < 32 ∧ bt m i = true := by
  unfold zb_ls; rw [List.mem_filter, List.mem_range]
theorem zb_mem' {m : Int32} {i : Nat} : i ∈ zb_ls m ↔ bt m i = true := by
  rw [zb_mem]
  constructor
  · exact fun h => h.2
  · intro h
    refine ⟨?_, h⟩
    rcases Nat.lt_or_ge i 32 with z | z
    · exact z
    · rw [b_big z] at h; exact absurd h (by decide)
theorem zb_srt (m : Int32) : (zb_ls m).Pairwise (· < ·) := List.Pairwise.filter _ List.pairwise_lt_range
theorem zb_len (m : Int32) : (zb_ls m).length ≤ 32 := by
  have h := List.length_filter_le (fun i => bt m i) (List.range 32)
  rw [List.length_range] at h; exact h
/-- two rising lists with the same members are the same -/
theorem zb_uniq : ∀ {l r : List Nat}, l.Pairwise (· < ·) → r.Pairwise (· < ·) → (∀ i, i ∈ l ↔ i ∈ r) → l = r
  | [], [], _, _, _ => rfl
  | [], b :: r, _, _, h => absurd ((h b).mpr (List.mem_cons_self)) (List.not_mem_nil)
  | a :: l, [], _, _, h => absurd ((h a).mp (List.mem_cons_self)) (List.not_mem_nil)
  | a :: l, b :: r, hl, hr, h => by
    have hl' := List.pairwise_cons.mp hl
    have hr' := List.pairwise_cons.mp hr
    have e : a = b := by
      rcases List.mem_cons.mp ((h a).mp List.mem_cons_self) with e | e
      · exact e
      · rcases List.mem_cons.mp ((h b).mpr List.mem_cons_self) with e2 | e2
        · exact e2.symm
        · have h1 := hr'.1 a e
          have h2 := hl'.1 b e2
          omega
    subst e
    refine congrArg (a :: ·) (zb_uniq hl'.2 hr'.2 fun i => ?_)
    constructor
    · intro hi
      rcases List.mem_cons.mp ((h i).mp (List.mem_cons_of_mem _ hi)) with e | e
      · have := hl'.1 i hi; omega
      · exact e
    · intro hi
      rcases List.mem_cons.mp ((h i).mpr (List.mem_cons_of_mem _ hi)) with e | e
      · have := hr'.1 i hi; omega
      · exact e
theorem zb_get {m : Int32} {k : Nat} (h : k < (zb_ls m).length) : (zb_ls m)[k] < 32 ∧ bt m (zb_ls m)[k] = true := zb_mem.mp (List.getElem_mem h)
theorem zb_nil {m : Int32} : zb_ls m = [] ↔ m = 0 := by
  constructor
  · intro h
    apply b_ext
    intro i hi
    rw [b_0]
    cases e : bt m i
    · rfl
    · have : i ∈ zb_ls m := zb_mem.mpr ⟨hi, e⟩
      rw [h] at this
      exact absurd this List.not_mem_nil
  · intro h
    subst h
    apply List.eq_nil_iff_forall_not_mem.mpr
    intro i hi
    have := (zb_mem.mp hi).2
    rw [b_0] at this
    exact absurd this (by decide)
/-! ===== tables ===== -/
theorem zb_one : ∀ r, r < 32 → ∀ i, i < 32 → bt ((1 : Int32) <<< (nI r &&& 31)) i = decide (i = r) := by decide +kernel
theorem zb_lt : ∀ r, r < 32 → ∀ i, i < 32 → bt (((1 : Int32) <<< (nI r &&& 31)) - 1) i = decide (i < r) := by decide +kernel
def zb_lo (n : Nat) : Int32 := if n < 32 then ((1 : Int32) <<< (nI n &&& 31)) - 1 else -1
theorem zb_lob {n i : Nat} (hi : i < 32) : bt (zb_lo n) i = decide (i < n) := by
  unfold zb_lo
  by_cases h : n < 32
  · rw [if_pos h]; exact zb_lt n h i hi
  · rw [if_neg h, b_m1 i hi]
    exact (decide_eq_true (by omega)).symm
theorem zb_not (x : Int32) {i : Nat} (hi : i < 32) : bt (x ^^^ (-1)) i = !(bt x i) := by
  rw [b_xor, b_m1 i hi]; cases bt x i <;> rfl
def zb_1 (r : Nat) : Int32 := (1 : Int32) <<< (nI r &&& 31)
theorem zb_1b {r i : Nat} (hr : r < 32) (hi : i < 32) : bt (zb_1 r) i = decide (i = r) := zb_one r hr i hi
theorem zb_lols {n : Nat} (h : n ≤ 32) : zb_ls (zb_lo n) = List.range n := by
  refine zb_uniq (zb_srt _) List.pairwise_lt_range fun i => ?_
  rw [zb_mem, List.mem_range]
  constructor
  · rintro ⟨h1, h2⟩
    rw [zb_lob h1] at h2
    exact of_decide_eq_true h2
  · intro h1
    refine ⟨by omega, ?_⟩
    rw [zb_lob (by omega)]
    exact decide_eq_true h1
/-! ===== the count of bits ===== -/
theorem zb_a1 (z w : Nat) : z &&& w = (z / 256 &&& w / 256) * 256 + (z % 256 &&& w % 256) := by
  have h1 : (z &&& w) / 256 = z / 256 &&& w / 256 := Nat.and_div_two_pow (n := 8)
  have h2 : (z &&& w) % 256 = z % 256 &&& w % 256 := Nat.and_mod_two_pow (n := 8)
  rw [← h1, ← h2]; omega
theorem zb_m4 (k a b c d : Nat) (hk : k < 256) (ha : a < 256) (hb : b < 256) (hc : c < 256) (hd : d < 256) :
    (a + 256 * b + 65536 * c + 16777216 * d) &&& (k * 16843009) = (a &&& k) + 256 * (b &&& k) + 65536 * (c &&& k) + 16777216 * (d &&& k) := by
  rw [zb_a1, zb_a1 (_ / 256), zb_a1 (_ / 256 / 256)]
  have e1 : (a + 256 * b + 65536 * c + 16777216 * d) % 256 = a := by omega
  have e2 : (a + 256 * b + 65536 * c + 16777216 * d) / 256 % 256 = b := by omega
  have e3 : (a + 256 * b + 65536 * c + 16777216 * d) / 256 / 256 % 256 = c := by omega
  have e4 : (a + 256 * b + 65536 * c + 16777216 * d) / 256 / 256 / 256 = d := by omega
  have f1 : k * 16843009 % 256 = k := by omega
  have f2 : k * 16843009 / 256 % 256 = k := by omega
  have f3 : k * 16843009 / 256 / 256 % 256 = k := by omega
  have f4 : k * 16843009 / 256 / 256 / 256 = k := by omega
  rw [e1, e2, e3, e4, f1, f2, f3, f4]
  omega
theorem zb_t1 : ∀ a, a < 256 → ∀ e, e < 2 → (a / 2 + 128 * e) &&& 85 = a / 2 &&& 85 := by decide +kernel
theorem zb_t2 : ∀ a, a < 256 → ∀ e, e < 4 → (a / 4 + 64 * e) &&& 51 = a / 4 &&& 51 := by decide +kernel
def zb_c8 (a : Nat) : Nat := ((List.range 8).filter (fun i => a.testBit i)).length
def zb_g1 (a : Nat) : Nat := a - (a / 2 &&& 85)
def zb_g2 (a : Nat) : Nat := (a &&& 51) + (a / 4 &&& 51)
theorem zb_t3 : ∀ a, a < 256 → (a / 2 &&& 85) ≤ a := by decide +kernel
theorem zb_t4 : ∀ a, a < 256 → zb_g2 (zb_g1 a) % 16 ≤ 4 ∧ zb_g2 (zb_g1 a) / 16 ≤ 4 ∧ zb_g2 (zb_g1 a) % 16 + zb_g2 (zb_g1 a) / 16 = zb_c8 a := by decide +kernel
theorem zb_s1 (a b c d : Nat) (ha : a < 256) (hb : b < 256) (hc : c < 256) (hd : d < 256) :
    (4294967296 - ((a + 256 * b + 65536 * c + 16777216 * d) / 2 &&& 1431655765) + (a + 256 * b + 65536 * c + 16777216 * d)) % 4294967296 = zb_g1 a + 256 * zb_g1 b + 65536 * zb_g1 c + 16777216 * zb_g1 d := by
  have e : (a + 256 * b + 65536 * c + 16777216 * d) / 2 = (a / 2 + 128 * (b % 2)) + 256 * (b / 2 + 128 * (c % 2)) + 65536 * (c / 2 + 128 * (d % 2)) + 16777216 * (d / 2 + 128 * 0) := by omega
  have m : (1431655765 : Nat) = 85 * 16843009 := by decide
  rw [e, m, zb_m4 85 _ _ _ _ (by omega) (by omega) (by omega) (by omega) (by omega), zb_t1 a ha _ (by omega), zb_t1 b hb _ (by omega), zb_t1 c hc _ (by omega), zb_t1 d hd _ (by omega)]
  have h1 := zb_t3 a ha
  have h2 := zb_t3 b hb
  have h3 := zb_t3 c hc
  have h4 := zb_t3 d hd
  unfold zb_g1
  generalize (a / 2 &&& 85) = p1 at *
  generalize (b / 2 &&& 85) = p2 at *
  generalize (c / 2 &&& 85) = p3 at *
  generalize (d / 2 &&& 85) = p4 at *
  omega
theorem zb_s2 (a b c d : Nat) (ha : a < 256) (hb : b < 256) (hc : c < 256) (hd : d < 256) :
    (((a + 256 * b + 65536 * c + 16777216 * d) &&& 858993459) + ((a + 256 * b + 65536 * c + 16777216 * d) / 4 &&& 858993459)) % 4294967296 = zb_g2 a + 256 * zb_g2 b + 65536 * zb_g2 c + 16777216 * zb_g2 d := by
  have e : (a + 256 * b + 65536 * c + 16777216 * d) / 4 = (a / 4 + 64 * (b % 4)) + 256 * (b / 4 + 64 * (c % 4)) + 65536 * (c / 4 + 64 * (d % 4)) + 16777216 * (d / 4 + 64 * 0) := by omega
  have m : (858993459 : Nat) = 51 * 16843009 := by decide
  rw [e, m, zb_m4 51 _ _ _ _ (by omega) ha hb hc hd, zb_m4 51 _ _ _ _ (by omega) (by omega) (by omega) (by omega) (by omega), zb_t2 a ha _ (by omega), zb_t2 b hb _ (by omega), zb_t2 c hc _ (by omega), zb_t2 d hd _ (by omega)]
  have l : ∀ x : Nat, x &&& 51 ≤ 51 := fun x => Nat.and_le_right
  have h1 := l a
  have h2 := l b
  have h3 := l c
  have h4 := l d
  have k1 := l (a / 4)
  have k2 := l (b / 4)
  have k3 := l (c / 4)
  have k4 := l (d / 4)
  unfold zb_g2
  generalize (a &&& 51) = p1 at *
  generalize (b &&& 51) = p2 at *
  generalize (c &&& 51) = p3 at *
  generalize (d &&& 51) = p4 at *
  generalize (a / 4 &&& 51) = q1 at *
  generalize (b / 4 &&& 51) = q2 at *
  generalize (c / 4 &&& 51) = q3 at *
  generalize (d / 4 &&& 51) = q4 at *
  omega
theorem zb_s3 (a b c d : Nat) (ha : a % 16 ≤ 4 ∧ a / 16 ≤ 4) (hb : b % 16 ≤ 4 ∧ b / 16 ≤ 4) (hc : c % 16 ≤ 4 ∧ c / 16 ≤ 4) (hd : d % 16 ≤ 4 ∧ d / 16 ≤ 4) :
    ((a + 256 * b + 65536 * c + 16777216 * d) + (a + 256 * b + 65536 * c + 16777216 * d) / 16) % 4294967296 &&& 252645135 = (a % 16 + a / 16) + 256 * (b % 16 + b / 16) + 65536 * (c % 16 + c / 16) + 16777216 * (d % 16 + d / 16) := by
  have e : ((a + 256 * b + 65536 * c + 16777216 * d) + (a + 256 * b + 65536 * c + 16777216 * d) / 16) % 4294967296 = (a + a / 16 + 16 * (b % 16)) + 256 * (b + b / 16 + 16 * (c % 16)) + 65536 * (c + c / 16 + 16 * (d % 16)) + 16777216 * (d + d / 16) := by omega
  have m : (252645135 : Nat) = 15 * 16843009 := by decide
  have l : ∀ x : Nat, x &&& 15 = x % 16 := fun x => Nat.and_two_pow_sub_one_eq_mod x 4
  have r : ∀ x y : Nat, x % 16 ≤ 4 ∧ x / 16 ≤ 4 → (x + x / 16 + 16 * y) % 16 = x % 16 + x / 16 := fun x y h => by omega
  have r0 : ∀ x : Nat, x % 16 ≤ 4 ∧ x / 16 ≤ 4 → (x + x / 16) % 16 = x % 16 + x / 16 := fun x h => by omega
  rw [e, m, zb_m4 15 _ _ _ _ (by omega) (by omega) (by omega) (by omega) (by omega), l, l, l, l, r a _ ha, r b _ hb, r c _ hc, r0 d hd]
theorem zb_s4 (a b c d : Nat) (ha : a ≤ 8) (hb : b ≤ 8) (hc : c ≤ 8) (hd : d ≤ 8) :
    (a + 256 * b + 65536 * c + 16777216 * d) * 16843009 % 4294967296 / 16777216 = a + b + c + d := by
  have e : (a + 256 * b + 65536 * c + 16777216 * d) * 16843009 = (a + 256 * (a + b) + 65536 * (a + b + c)) + 16777216 * (a + b + c + d) + 4294967296 * (b + c + d + 256 * (c + d) + 65536 * d) := by omega
  have g : ∀ x s y : Nat, x < 16777216 → s ≤ 32 → (x + 16777216 * s + 4294967296 * y) % 4294967296 / 16777216 = s := fun x s y h1 h2 => by omega
  rw [e]
  exact g _ _ _ (by omega) (by omega)
theorem zb_swN {A B C X : Nat} (hX : X < 4294967296) (eA : A = (4294967296 - (X / 2 &&& 1431655765) + X) % 4294967296) (eB : B = ((A &&& 858993459) + (A / 4 &&& 858993459)) % 4294967296)
    (eC : C = (B + B / 16) % 4294967296 &&& 252645135) : C * 16843009 % 4294967296 / 16777216 = zb_c8 (X % 256) + zb_c8 (X / 256 % 256) + zb_c8 (X / 65536 % 256) + zb_c8 (X / 16777216) := by
  obtain ⟨a, ha⟩ : ∃ a, a = X % 256 := ⟨_, rfl⟩
  obtain ⟨b, hb⟩ : ∃ b, b = X / 256 % 256 := ⟨_, rfl⟩
  obtain ⟨c, hc⟩ : ∃ c, c = X / 65536 % 256 := ⟨_, rfl⟩
  obtain ⟨d, hd⟩ : ∃ d, d = X / 16777216 := ⟨_, rfl⟩
  have e : X = a + 256 * b + 65536 * c + 16777216 * d := by omega
  rw [← ha, ← hb, ← hc, ← hd]
  have a1 : a < 256 := by omega
  have b1 : b < 256 := by omega
  have c1 : c < 256 := by omega
  have d1 : d < 256 := by omega
  clear ha hb hc hd
  rw [e, zb_s1 a b c d a1 b1 c1 d1] at eA
  have g : ∀ x, x < 256 → zb_g1 x < 256 := fun x h => by unfold zb_g1; omega
  rw [eA, zb_s2 _ _ _ _ (g a a1) (g b b1) (g c c1) (g d d1)] at eB
  have ta := zb_t4 a a1
  have tb := zb_t4 b b1
  have tc := zb_t4 c c1
  have td := zb_t4 d d1
  rw [eB, zb_s3 _ _ _ _ ⟨ta.1, ta.2.1⟩ ⟨tb.1, tb.2.1⟩ ⟨tc.1, tc.2.1⟩ ⟨td.1, td.2.1⟩, ta.2.2, tb.2.2, tc.2.2, td.2.2] at eC
  rw [eC]
  exact zb_s4 _ _ _ _ (by omega) (by omega) (by omega) (by omega)
theorem zb_r32 : List.range 32 = List.range 8 ++ ((List.range 8).map (fun i => i + 8) ++ ((List.range 8).map (fun i => i + 16) ++ (List.range 8).map (fun i => i + 24))) := by decide
theorem zb_f8 (m : Int32) (s : Nat) (hs : s ≤ 24) : (((List.range 8).map (fun i => i + s)).filter (fun i => bt m i)).length = zb_c8 (m.toBitVec.toNat / 2 ^ s % 256) := by
  rw [List.filter_map, List.length_map]
  unfold zb_c8
  refine congrArg List.length (List.filter_congr fun i hi => ?_)
  have hi8 : i < 8 := List.mem_range.mp hi
  show m.toBitVec.toNat.testBit (i + s) = _
  rw [show (256 : Nat) = 2 ^ 8 from rfl, Nat.testBit_mod_two_pow, Nat.testBit_div_two_pow, decide_eq_true hi8, Bool.true_and]
theorem zb_pc (m : Int32) : (zb_ls m).length = zb_c8 (m.toBitVec.toNat % 256) + zb_c8 (m.toBitVec.toNat / 256 % 256) + zb_c8 (m.toBitVec.toNat / 65536 % 256) + zb_c8 (m.toBitVec.toNat / 16777216) := by
  have h0 := zb_f8 m 0 (by omega)
  have h1 := zb_f8 m 8 (by omega)
  have h2 := zb_f8 m 16 (by omega)
  have h3 := zb_f8 m 24 (by omega)
  have e0 : (List.range 8).map (fun i => i + 0) = List.range 8 := by decide
  rw [e0, Nat.pow_zero, Nat.div_one] at h0
  rw [show (2 : Nat) ^ 8 = 256 from rfl] at h1
  rw [show (2 : Nat) ^ 16 = 65536 from rfl] at h2
  rw [show (2 : Nat) ^ 24 = 16777216 from rfl] at h3
  have lt := m.toBitVec.isLt
  rw [show (2 : Nat) ^ 32 = 4294967296 from rfl] at lt
  rw [Nat.mod_eq_of_lt (a := m.toBitVec.toNat / 16777216) (by omega)] at h3
  unfold zb_ls
  rw [zb_r32, List.filter_append, List.filter_append, List.filter_append, List.length_append, List.length_append, List.length_append, h0, h1, h2, h3]
  omega
theorem zb_tn (x y : Int32) : (x - y).toBitVec.toNat = (4294967296 - y.toBitVec.toNat + x.toBitVec.toNat) % 4294967296 := by
  rw [Int32.toBitVec_sub, BitVec.toNat_sub]
theorem zb_ta (x y : Int32) : (x + y).toBitVec.toNat = (x.toBitVec.toNat + y.toBitVec.toNat) % 4294967296 := by
  rw [Int32.toBitVec_add, BitVec.toNat_add]
theorem zb_tm (x y : Int32) : (x * y).toBitVec.toNat = (x.toBitVec.toNat * y.toBitVec.toNat) % 4294967296 := by
  rw [Int32.toBitVec_mul, BitVec.toNat_mul]
theorem zb_td (x y : Int32) : (x &&& y).toBitVec.toNat = x.toBitVec.toNat &&& y.toBitVec.toNat := by
  rw [Int32.toBitVec_and, BitVec.toNat_and]
theorem zb_sw {x a b c : Int32} (ea : a = x - (((x.toUInt32 >>> ((1 : Int32).toUInt32 &&& Int32.toUInt32 31)).toInt32) &&& 1431655765))
    (eb : b = (a &&& 858993459) + (((a.toUInt32 >>> ((2 : Int32).toUInt32 &&& Int32.toUInt32 31)).toInt32) &&& 858993459))
    (ec : c = (b + ((b.toUInt32 >>> ((4 : Int32).toUInt32 &&& Int32.toUInt32 31)).toInt32)) &&& 252645135) :
    ((c * 16843009).toUInt32 >>> ((24 : Int32).toUInt32 &&& Int32.toUInt32 31)).toInt32 = nI (zb_ls x).length := by
  apply Int32.toBitVec_inj.mp
  apply BitVec.eq_of_toNat_eq
  have hl := zb_len x
  rw [pk_tn (by omega), pk_ushr _ 24 24 (by decide), zb_tm, show (16843009 : Int32).toBitVec.toNat = 16843009 from by decide, show (2 : Nat) ^ 24 = 16777216 from rfl, zb_pc]
  refine zb_swN (A := a.toBitVec.toNat) (B := b.toBitVec.toNat) x.toBitVec.isLt ?_ ?_ ?_
  · rw [ea, zb_tn, zb_td, pk_ushr _ 1 1 (by decide), show (1431655765 : Int32).toBitVec.toNat = 1431655765 from by decide]
  · rw [eb, zb_ta, zb_td, zb_td, pk_ushr _ 2 2 (by decide), show (858993459 : Int32).toBitVec.toNat = 858993459 from by decide]
  · rw [ec, zb_td, zb_ta, pk_ushr _ 4 4 (by decide), show (252645135 : Int32).toBitVec.toNat = 252645135 from by decide]
/-! ===== the lowest bit ===== -/
theorem zb_tp1 : ∀ b, b < 32 → ∀ i, i < 32 → (BitVec.twoPow 32 b - 1#32).getLsbD i = decide (i < b) := by decide +kernel
theorem zb_low {x : Int32} {b : Nat} (hb : b < 32) (h1 : bt x b = true) (h0 : ∀ i, i < b → bt x i = false) {i : Nat} (hi : i < 32) :
    bt (x - 1) i = (bt x i && decide (i ≠ b) || decide (i < b)) := by
  obtain ⟨Y, hY⟩ : ∃ Y : BitVec 32, Y = x.toBitVec &&& ~~~ (BitVec.twoPow 32 b) := ⟨_, rfl⟩
  have yb : ∀ j, j < 32 → Y.getLsbD j = (bt x j && decide (j ≠ b)) := by
    intro j hj
    rw [hY, BitVec.getLsbD_and, BitVec.getLsbD_not, BitVec.getLsbD_twoPow]
    show (bt x j && _) = _
    by_cases z : j = b
    · subst z; simp [hj]
    · have z' : ¬ b = j := fun e => z e.symm
      simp [hj, z, z']
  have d1 : Y &&& BitVec.twoPow 32 b = 0#32 := by
    apply BitVec.eq_of_getLsbD_eq
    intro j hj
    rw [BitVec.getLsbD_and, yb j hj, BitVec.getLsbD_twoPow, BitVec.getLsbD_zero]
    by_cases z : j = b
    · subst z; simp
    · have z' : ¬ b = j := fun e => z e.symm
      simp [z']
  have d2 : Y &&& (BitVec.twoPow 32 b - 1#32) = 0#32 := by
    apply BitVec.eq_of_getLsbD_eq
    intro j hj
    rw [BitVec.getLsbD_and, yb j hj, zb_tp1 b hb j hj, BitVec.getLsbD_zero]
    by_cases z : j < b
    · rw [h0 j z]; rfl
    · rw [decide_eq_false z, Bool.and_false]
  have ex : x.toBitVec = Y + BitVec.twoPow 32 b := by
    rw [BitVec.add_eq_or_of_and_eq_zero _ _ d1]
    apply BitVec.eq_of_getLsbD_eq
    intro j hj
    rw [BitVec.getLsbD_or, yb j hj, BitVec.getLsbD_twoPow]
    show bt x j = _
    by_cases z : j = b
    · subst z; simp [h1, hj]
    · have z' : ¬ b = j := fun e => z e.symm
      simp [z, z']
  have e2 : x.toBitVec - 1#32 = Y ||| (BitVec.twoPow 32 b - 1#32) := by
    rw [← BitVec.add_eq_or_of_and_eq_zero _ _ d2, ex, BitVec.sub_eq_add_neg, BitVec.sub_eq_add_neg, BitVec.add_assoc]
  show (x - 1).toBitVec.getLsbD i = _
  rw [Int32.toBitVec_sub]
  show (x.toBitVec - 1#32).getLsbD i = _
  rw [e2, BitVec.getLsbD_or, yb i hi, zb_tp1 b hb i hi]
theorem zb_neg (x : Int32) {i : Nat} (hi : i < 32) : bt (-x) i = !(bt (x - 1) i) := by
  have e : (-x).toBitVec = ~~~ ((x - 1).toBitVec) := by
    rw [Int32.toBitVec_neg, Int32.toBitVec_sub]
    show - x.toBitVec = ~~~ (x.toBitVec - 1#32)
    rw [BitVec.neg_eq_not_add, BitVec.not_sub_one_eq_not_add_one]
  show (-x).toBitVec.getLsbD i = _
  rw [e, BitVec.getLsbD_not, decide_eq_true hi, Bool.true_and]
  rfl
theorem zb_clr {x : Int32} {b : Nat} {t : List Nat} (h : zb_ls x = b :: t) : zb_ls (x &&& (x - 1)) = t ∧ (x &&& (-x)) - 1 = zb_lo b ∧ x &&& (-x) = zb_1 b ∧ b < 32 := by
  have hb := zb_mem.mp (show b ∈ zb_ls x by rw [h]; exact List.mem_cons_self)
  have hs := zb_srt x
  rw [h] at hs
  have hs' := List.pairwise_cons.mp hs
  have h0 : ∀ i, i < b → bt x i = false := by
    intro i hi
    cases e : bt x i
    · rfl
    · have : i ∈ zb_ls x := zb_mem.mpr ⟨by omega, e⟩
      rw [h] at this
      rcases List.mem_cons.mp this with z | z
      · omega
      · have := hs'.1 i z; omega
  have o1 : x &&& (-x) = zb_1 b := by
    apply b_ext
    intro i hi
    rw [b_and, zb_neg x hi, zb_low hb.1 hb.2 h0 hi, zb_1b hb.1 hi]
    by_cases z : i = b
    · subst z; simp [hb.2]
    · by_cases z2 : i < b
      · simp [h0 i z2, z]
      · cases bt x i <;> simp [z, z2]
  refine ⟨?_, ?_, o1, hb.1⟩
  · refine zb_uniq (zb_srt _) hs'.2 fun i => ?_
    rw [zb_mem]
    constructor
    · rintro ⟨hi, e⟩
      rw [b_and, zb_low hb.1 hb.2 h0 hi] at e
      have z : i ≠ b := by
        rintro rfl
        simp at e
      have hx : bt x i = true := by
        cases q : bt x i
        · rw [q] at e; simp at e
        · rfl
      have : i ∈ zb_ls x := zb_mem.mpr ⟨hi, hx⟩
      rw [h] at this
      rcases List.mem_cons.mp this with z2 | z2
      · exact absurd z2 z
      · exact z2
    · intro hi
      have := zb_mem.mp (show i ∈ zb_ls x by rw [h]; exact List.mem_cons_of_mem _ hi)
      have lt := hs'.1 i hi
      refine ⟨this.1, ?_⟩
      rw [b_and, zb_low hb.1 hb.2 h0 this.1, this.2]
      have : i ≠ b := by omega
      simp [this]
  · rw [o1]
    unfold zb_lo zb_1
    rw [if_pos hb.1]
end
section
/-! ===== trees as level sequences ===== -/
def zt_P (lev : Nat → Nat) (p i : Nat) : Prop := p < i ∧ lev i = lev p + 1 ∧ ∀ k, p < k → k < i → lev i ≤ lev k
def zt_S (n : Nat) (lev : Nat → Nat) (i s : Nat) : Prop := i + s < n ∧ (∀ k, i < k → k ≤ i + s → lev i < lev k) ∧ (i + s + 1 < n → lev (i + s + 1) ≤ lev i)
def zt_ok (n : Nat) (lev sz pr : Nat → Nat) : Prop := 0 < n ∧ lev 0 = 0 ∧ (∀ i, 0 < i → i < n → zt_P lev (pr i) i) ∧ (∀ i, i < n → zt_S n lev i (sz i))
def zt_bk (m : Nat) (bv bs bp : Nat → Nat) : Prop := 0 < m ∧ (∀ i, i < m → bv i = 0 ∨ zt_P bv (bp i) i) ∧ (∀ i, i < m → zt_S m bv i (bs i))
/-- j is i or an ancestor of i -/
def zt_as (lev : Nat → Nat) (j i : Nat) : Prop := j ≤ i ∧ ∀ k, j < k → k ≤ i → lev j < lev k
theorem zt_asS {n : Nat} {lev : Nat → Nat} {j s i : Nat} (h : zt_S n lev j s) (hi : i < n) : zt_as lev j i ↔ j ≤ i ∧ i ≤ j + s := by
  obtain ⟨h1, h2, h3⟩ := h
  constructor
  · rintro ⟨a, b⟩
    refine ⟨a, ?_⟩
    rcases Nat.lt_or_ge (j + s) i with z | z
    · have := b (j + s + 1) (by omega) (by omega)
      have := h3 (by omega)
      omega
    · exact z
  · rintro ⟨a, b⟩
    exact ⟨a, fun k k1 k2 => h2 k k1 (by omega)⟩
theorem zt_asP {lev : Nat → Nat} {j p i : Nat} (h : zt_P lev p i) : zt_as lev j i ↔ j = i ∨ zt_as lev j p := by
  obtain ⟨h1, h2, h3⟩ := h
  constructor
  · rintro ⟨a, b⟩
    rcases Nat.eq_or_lt_of_le a with e | e
    · exact Or.inl e
    · refine Or.inr ⟨?_, fun k k1 k2 => b k k1 (by omega)⟩
      rcases Nat.lt_or_ge p j with z | z
      · have := h3 j z e
        have := b i e (Nat.le_refl _)
        omega
      · exact z
  · rintro (e | ⟨a, b⟩)
    · subst e
      exact ⟨Nat.le_refl _, fun k k1 k2 => by omega⟩
    · have hj : lev j ≤ lev p := by
        rcases Nat.eq_or_lt_of_le a with e | e
        · rw [e]; exact Nat.le_refl _
        · exact Nat.le_of_lt (b p e (Nat.le_refl _))
      refine ⟨by omega, fun k k1 k2 => ?_⟩
      rcases Nat.lt_or_ge p k with z | z
      · rcases Nat.eq_or_lt_of_le k2 with e | e
        · subst e; omega
        · have := h3 k z e; omega
      · exact b k k1 z
theorem zt_as_lev {lev : Nat → Nat} {j i : Nat} (h : zt_as lev j i) : lev j ≤ lev i := by
  rcases Nat.eq_or_lt_of_le h.1 with e | e
  · rw [e]; exact Nat.le_refl _
  · exact Nat.le_of_lt (h.2 i e (Nat.le_refl _))
theorem zt_as_eq {lev : Nat → Nat} {j i : Nat} (h : zt_as lev j i) (e : lev j = lev i) : j = i := by
  rcases Nat.eq_or_lt_of_le h.1 with z | z
  · exact z
  · have := h.2 i z (Nat.le_refl _); omega
theorem zt_as_re (lev : Nat → Nat) (i : Nat) : zt_as lev i i := ⟨Nat.le_refl _, fun k k1 k2 => by omega⟩
theorem zt_as_tr {lev : Nat → Nat} {a b c : Nat} (h : zt_as lev a b) (g : zt_as lev b c) : zt_as lev a c := by
  refine ⟨Nat.le_trans h.1 g.1, fun k k1 k2 => ?_⟩
  rcases Nat.lt_or_ge b k with z | z
  · have := g.2 k z k2
    have := zt_as_lev h
    omega
  · exact h.2 k k1 z
section
variable {n : Nat} {lev sz pr : Nat → Nat}
theorem zt_lev1 (O : zt_ok n lev sz pr) {i : Nat} (h0 : 0 < i) (hi : i < n) : 0 < lev i := by
  have := (O.2.2.1 i h0 hi).2.1; omega
theorem zt_root (O : zt_ok n lev sz pr) {i : Nat} (hi : i < n) : zt_as lev 0 i := by
  refine ⟨Nat.zero_le _, fun k k1 k2 => ?_⟩
  rw [O.2.1]
  exact zt_lev1 O k1 (by omega)
theorem zt_lev0 (O : zt_ok n lev sz pr) {i : Nat} (hi : i < n) (h : lev i = 0) : i = 0 := by
  rcases Nat.eq_zero_or_pos i with z | z
  · exact z
  · have := zt_lev1 O z hi; omega
theorem zt_nest (O : zt_ok n lev sz pr) {i p : Nat} (hi : i < n) (h1 : i ≤ p) (h2 : p ≤ i + sz i) : p + sz p ≤ i + sz i := by
  have Si := O.2.2.2 i hi
  have hp : p < n := by have := Si.1; omega
  have Sp := O.2.2.2 p hp
  have hz : p + sz p < n := Sp.1
  have a1 := (zt_asS Si hp).mpr ⟨h1, h2⟩
  have a2 := (zt_asS Sp hz).mpr ⟨by omega, Nat.le_refl _⟩
  exact ((zt_asS Si hz).mp (zt_as_tr a1 a2)).2
theorem zt_prs (O : zt_ok n lev sz pr) {i : Nat} (h0 : 0 < i) (hi : i < n) : i ≤ pr i + sz (pr i) := by
  have P := O.2.2.1 i h0 hi
  have a := (zt_asP P (j := pr i)).mpr (Or.inr (zt_as_re _ _))
  exact ((zt_asS (O.2.2.2 (pr i) (by have := P.1; omega)) hi).mp a).2
/-- a node's parent, if the node lies within the subtree of r and isn't r -/
theorem zt_prin (O : zt_ok n lev sz pr) {r i : Nat} (h0 : r < i) (hi : i ≤ r + sz r) (hr : r < n) : r ≤ pr i := by
  have Sr := O.2.2.2 r hr
  have hn : i < n := by have := Sr.1; omega
  have a := (zt_asS Sr hn).mpr ⟨by omega, hi⟩
  rcases (zt_asP (O.2.2.1 i (by omega) hn)).mp a with e | e
  · omega
  · exact e.1
theorem zt_prout (O : zt_ok n lev sz pr) {r i : Nat} (hr : r < n) (hi : i < n) (h : r + sz r < i) : pr i < r ∨ r + sz r < pr i := by
  have P := O.2.2.1 i (by omega) hi
  rcases Nat.lt_or_ge (pr i) r with z | z
  · exact Or.inl z
  · rcases Nat.lt_or_ge (r + sz r) (pr i) with y | y
    · exact Or.inr y
    · have Sr := O.2.2.2 r hr
      have hp : pr i < n := by have := P.1; omega
      have a := (zt_asS Sr hp).mpr ⟨z, y⟩
      have b := (zt_asS Sr hi).mp ((zt_asP P).mpr (Or.inr a))
      omega
/-- the subtree of r as a block -/
theorem zt_sub (O : zt_ok n lev sz pr) {r : Nat} (hr : r < n) : zt_bk (sz r + 1) (fun i => lev (r + i) - lev r) (fun i => sz (r + i)) (fun i => pr (r + i) - r) := by
  have Sr := O.2.2.2 r hr
  have lv : ∀ i, i < sz r + 1 → lev r ≤ lev (r + i) := fun i hi => zt_as_lev ((zt_asS Sr (by have := Sr.1; omega)).mpr ⟨by omega, by omega⟩)
  refine ⟨by omega, fun i hi => ?_, fun i hi => ?_⟩
  · rcases Nat.eq_zero_or_pos i with z | z
    · subst z; exact Or.inl (by show lev (r + 0) - lev r = 0; rw [Nat.add_zero]; omega)
    · right
      have hn : r + i < n := by have := Sr.1; omega
      have P := O.2.2.1 (r + i) (by omega) hn
      have q := zt_prin O (show r < r + i by omega) (by omega) hr
      have l1 := lv (pr (r + i) - r) (by have := P.1; omega)
      have e : r + (pr (r + i) - r) = pr (r + i) := by omega
      rw [e] at l1
      refine ⟨by show pr (r + i) - r < i; have := P.1; omega, ?_, fun k k1 k2 => ?_⟩
      · show lev (r + i) - lev r = lev (r + (pr (r + i) - r)) - lev r + 1
        rw [e]; have := P.2.1; omega
      · show lev (r + i) - lev r ≤ lev (r + k) - lev r
        have k1 : pr (r + i) - r < k := k1
        have := P.2.2 (r + k) (by omega) (by omega)
        omega
  · have hn : r + i < n := by have := Sr.1; omega
    have S := O.2.2.2 (r + i) hn
    have q := zt_nest O hr (show r ≤ r + i by omega) (by omega)
    refine ⟨by show i + sz (r + i) < sz r + 1; omega, fun k k1 k2 => ?_, fun k1 => ?_⟩
    · show lev (r + i) - lev r < lev (r + k) - lev r
      have k2' : k ≤ i + sz (r + i) := k2
      have := S.2.1 (r + k) (by omega) (by omega)
      have := lv i hi
      omega
    · show lev (r + (i + sz (r + i) + 1)) - lev r ≤ lev (r + i) - lev r
      have k1' : i + sz (r + i) + 1 < sz r + 1 := k1
      have := S.2.2 (by have := Sr.1; omega)
      have e : r + (i + sz (r + i) + 1) = r + i + sz (r + i) + 1 := by omega
      rw [e]; omega
end
/-! ===== an interval of ranks put in or taken out ===== -/
def zt_in (a m : Nat) (f g : Nat → Nat) : Nat → Nat := fun i => if i < a then f i else if i < a + m then g (i - a) else f (i - m)
theorem zt_in1 {a m : Nat} {f g : Nat → Nat} {i : Nat} (h : i < a) : zt_in a m f g i = f i := if_pos h
theorem zt_in2 {a m : Nat} {f g : Nat → Nat} {i : Nat} (h : i < m) : zt_in a m f g (a + i) = g i := by
  unfold zt_in; rw [if_neg (by omega), if_pos (by omega), Nat.add_sub_cancel_left]
theorem zt_in3 {a m : Nat} {f g : Nat → Nat} {i : Nat} (h : a ≤ i) : zt_in a m f g (i + m) = f i := by
  unfold zt_in; rw [if_neg (by omega), if_neg (by omega), Nat.add_sub_cancel]
def zt_dl (a m : Nat) (f : Nat → Nat) : Nat → Nat := fun i => if i < a then f i else f (i + m)
theorem zt_dl1 {a m : Nat} {f : Nat → Nat} {i : Nat} (h : i < a) : zt_dl a m f i = f i := if_pos h
theorem zt_dl2 {a m : Nat} {f : Nat → Nat} {i : Nat} (h : a ≤ i) : zt_dl a m f i = f (i + m) := if_neg (by omega)
/-- three kinds of ranks behind an insertion -/
theorem zt_c3 (a : Nat) {m n : Nat} {Q : Nat → Prop} (h1 : ∀ i, i < a → Q i) (h2 : ∀ i, i < m → Q (a + i)) (h3 : ∀ i, a ≤ i → i < n → Q (i + m)) : ∀ i, i < n + m → Q i := by
  intro i hi
  rcases Nat.lt_or_ge i a with z | z
  · exact h1 i z
  · rcases Nat.lt_or_ge i (a + m) with y | y
    · have := h2 (i - a) (by omega)
      rw [show a + (i - a) = i by omega] at this
      exact this
    · have := h3 (i - m) (by omega) (by omega)
      rw [show i - m + m = i by omega] at this
      exact this
/-- a place: parent p, first rank a -/
def zt_pl (n : Nat) (lev sz : Nat → Nat) (p a : Nat) : Prop := p < n ∧ p < a ∧ a ≤ p + sz p + 1 ∧ (a < n → lev a ≤ lev p + 1)
def zt_isz (p m : Nat) (sz : Nat → Nat) : Nat → Nat := fun i => if i ≤ p ∧ p ≤ i + sz i then sz i + m else sz i
def zt_dsz (p m : Nat) (sz : Nat → Nat) : Nat → Nat := fun i => if i ≤ p ∧ p ≤ i + sz i then sz i - m else sz i
def zt_ipr (a m p : Nat) (pr bv bp : Nat → Nat) : Nat → Nat := fun i => if i < a then pr i else if i < a + m then (if bv (i - a) = 0 then p else a + bp (i - a)) else (if pr (i - m) < a then pr (i - m) else pr (i - m) + m)
def zt_dpr (a m : Nat) (pr : Nat → Nat) : Nat → Nat := fun i => if i < a then pr i else (if pr (i + m) < a then pr (i + m) else pr (i + m) - m)
section
variable {n m a p : Nat} {lev sz pr bv bs bp lev' : Nat → Nat}
theorem zt_inS (O : zt_ok n lev sz pr) (Pl : zt_pl n lev sz p a) (B : zt_bk m bv bs bp)
    (L1 : ∀ i, i < a → lev' i = lev i) (L2 : ∀ i, i < m → lev' (a + i) = lev p + 1 + bv i) (L3 : ∀ i, a ≤ i → lev' (i + m) = lev i) :
    ∀ i, i < n + m → zt_S (n + m) lev' i (zt_in a m (zt_isz p m sz) bs i) := by
  obtain ⟨hp, hpa, hae, hla⟩ := Pl
  have Sp := O.2.2.2 p hp
  have han : a ≤ n := by have := Sp.1; omega
  have b0 : bv 0 = 0 := by
    rcases B.2.1 0 B.1 with z | z
    · exact z
    · have := z.1; omega
  refine zt_c3 a (fun i hi => ?_) (fun i hi => ?_) (fun i hi hin => ?_)
  · rw [zt_in1 hi]
    have Si := O.2.2.2 i (by omega)
    unfold zt_isz
    by_cases c : i ≤ p ∧ p ≤ i + sz i
    · rw [if_pos c]
      have q := zt_nest O (show i < n by omega) c.1 c.2
      have li : lev i ≤ lev p := zt_as_lev ((zt_asS Si hp).mpr c)
      refine ⟨by have := Si.1; omega, fun k k1 k2 => ?_, fun k1 => ?_⟩
      · rw [L1 i hi]
        rcases Nat.lt_or_ge k a with z | z
        · rw [L1 k z]; exact Si.2.1 k k1 (by omega)
        · rcases Nat.lt_or_ge k (a + m) with y | y
          · rw [show k = a + (k - a) by omega, L2 (k - a) (by omega)]; omega
          · rw [show k = (k - m) + m by omega, L3 (k - m) (by omega)]; exact Si.2.1 (k - m) (by omega) (by omega)
      · rw [L1 i hi, show i + (sz i + m) + 1 = (i + sz i + 1) + m by omega, L3 _ (by omega)]
        exact Si.2.2 (by omega)
    · rw [if_neg c]
      have hend : i + sz i + 1 ≤ a ∧ (p < i ∨ i + sz i + 1 ≤ p) := by
        rcases Nat.lt_or_ge p i with z | z
        · refine ⟨?_, Or.inl z⟩
          have l1 := Sp.2.1 i z (by omega)
          rcases Nat.lt_or_ge (i + sz i) a with y | y
          · exact y
          · have han' : a < n := by have := Si.1; omega
            have l2 := Si.2.1 a hi y
            have := hla han'
            omega
        · have : i + sz i < p := by
            rcases Nat.lt_or_ge (i + sz i) p with y | y
            · exact y
            · exact absurd ⟨z, y⟩ c
          exact ⟨by omega, Or.inr this⟩
      refine ⟨by omega, fun k k1 k2 => ?_, fun k1 => ?_⟩
      · rw [L1 i hi, L1 k (by omega)]; exact Si.2.1 k k1 k2
      · rw [L1 i hi]
        rcases Nat.lt_or_ge (i + sz i + 1) a with z | z
        · rw [L1 _ z]; exact Si.2.2 (by omega)
        · have e : i + sz i + 1 = a + 0 := by omega
          rw [e, L2 0 B.1, b0]
          rcases hend.2 with y | y
          · have := Sp.2.1 i y (by omega); omega
          · omega
  · rw [zt_in2 hi]
    have S := B.2.2 i hi
    refine ⟨by have := S.1; omega, fun k k1 k2 => ?_, fun k1 => ?_⟩
    · have h1 := S.1
      have := S.2.1 (k - a) (by omega) (by omega)
      rw [L2 i hi, show k = a + (k - a) by omega, L2 (k - a) (by omega)]
      omega
    · rw [L2 i hi]
      have h1 := S.1
      rcases Nat.lt_or_ge (i + bs i + 1) m with z | z
      · rw [show a + i + bs i + 1 = a + (i + bs i + 1) by omega, L2 _ z]
        have := S.2.2 z
        omega
      · rw [show a + i + bs i + 1 = a + m by omega, L3 a (Nat.le_refl _)]
        have := hla (by omega)
        omega
  · rw [zt_in3 hi]
    have Si := O.2.2.2 i hin
    have e : zt_isz p m sz i = sz i := by
      unfold zt_isz
      exact if_neg (by omega)
    rw [e]
    refine ⟨by have := Si.1; omega, fun k k1 k2 => ?_, fun k1 => ?_⟩
    · rw [L3 i hi, show k = (k - m) + m by omega, L3 (k - m) (by omega)]
      exact Si.2.1 (k - m) (by omega) (by omega)
    · rw [L3 i hi, show i + m + sz i + 1 = (i + sz i + 1) + m by omega, L3 _ (by omega)]
      exact Si.2.2 (by omega)
theorem zt_inP (O : zt_ok n lev sz pr) (Pl : zt_pl n lev sz p a) (B : zt_bk m bv bs bp)
    (L1 : ∀ i, i < a → lev' i = lev i) (L2 : ∀ i, i < m → lev' (a + i) = lev p + 1 + bv i) (L3 : ∀ i, a ≤ i → lev' (i + m) = lev i) :
    ∀ i, i < n + m → 0 < i → zt_P lev' (zt_ipr a m p pr bv bp i) i := by
  obtain ⟨hp, hpa, hae, hla⟩ := Pl
  have Sp := O.2.2.2 p hp
  have han : a ≤ n := by have := Sp.1; omega
  refine zt_c3 a (fun i hi h0 => ?_) (fun i hi h0 => ?_) (fun i hi hin h0 => ?_)
  · have P := O.2.2.1 i h0 (by omega)
    have e : zt_ipr a m p pr bv bp i = pr i := if_pos hi
    rw [e]
    have h1 := P.1
    refine ⟨h1, ?_, fun k k1 k2 => ?_⟩
    · rw [L1 i hi, L1 _ (by omega)]; exact P.2.1
    · rw [L1 i hi, L1 k (by omega)]; exact P.2.2 k k1 k2
  · have e : zt_ipr a m p pr bv bp (a + i) = if bv i = 0 then p else a + bp i := by
      unfold zt_ipr; rw [if_neg (by omega), if_pos (by omega), Nat.add_sub_cancel_left]
    rw [e]
    by_cases c : bv i = 0
    · rw [if_pos c]
      refine ⟨by omega, ?_, fun k k1 k2 => ?_⟩
      · rw [L2 i hi, L1 p hpa, c]
      · rw [L2 i hi, c]
        rcases Nat.lt_or_ge k a with z | z
        · rw [L1 k z]
          have := Sp.2.1 k k1 (by omega)
          omega
        · rw [show k = a + (k - a) by omega, L2 (k - a) (by omega)]; omega
    · rw [if_neg c]
      rcases B.2.1 i hi with z | P
      · exact absurd z c
      · have h1 := P.1
        refine ⟨by omega, ?_, fun k k1 k2 => ?_⟩
        · rw [L2 i hi, L2 _ (by omega)]; have := P.2.1; omega
        · rw [L2 i hi, show k = a + (k - a) by omega, L2 (k - a) (by omega)]
          have := P.2.2 (k - a) (by omega) (by omega)
          omega
  · have P := O.2.2.1 i (by omega) hin
    have h1 := P.1
    have e : zt_ipr a m p pr bv bp (i + m) = if pr i < a then pr i else pr i + m := by
      unfold zt_ipr; rw [if_neg (by omega), if_neg (by omega), Nat.add_sub_cancel]
    rw [e]
    by_cases c : pr i < a
    · rw [if_pos c]
      have li : lev i ≤ lev p + 1 := by
        rcases Nat.eq_or_lt_of_le hi with z | z
        · subst z; exact hla hin
        · have := P.2.2 a c z
          have := hla (by omega)
          omega
      refine ⟨by omega, ?_, fun k k1 k2 => ?_⟩
      · rw [L3 i hi, L1 _ c]; exact P.2.1
      · rw [L3 i hi]
        rcases Nat.lt_or_ge k a with z | z
        · rw [L1 k z]; exact P.2.2 k k1 (by omega)
        · rcases Nat.lt_or_ge k (a + m) with y | y
          · rw [show k = a + (k - a) by omega, L2 (k - a) (by omega)]; omega
          · rw [show k = (k - m) + m by omega, L3 (k - m) (by omega)]; exact P.2.2 (k - m) (by omega) (by omega)
    · rw [if_neg c]
      refine ⟨by omega, ?_, fun k k1 k2 => ?_⟩
      · rw [L3 i hi, L3 _ (by omega)]; exact P.2.1
      · rw [L3 i hi, show k = (k - m) + m by omega, L3 (k - m) (by omega)]; exact P.2.2 (k - m) (by omega) (by omega)
end
theorem zt_ins {n m a p : Nat} {lev sz pr bv bs bp : Nat → Nat} (O : zt_ok n lev sz pr) (Pl : zt_pl n lev sz p a) (B : zt_bk m bv bs bp) :
    zt_ok (n + m) (zt_in a m lev (fun i => lev p + 1 + bv i)) (zt_in a m (zt_isz p m sz) bs) (zt_ipr a m p pr bv bp) :=
  ⟨by have := O.1; omega, (zt_in1 (by have := Pl.2.1; omega)).trans O.2.1, fun i h0 hi => zt_inP O Pl B (fun i h => zt_in1 h) (fun i h => zt_in2 h) (fun i h => zt_in3 h) i hi h0,
    zt_inS O Pl B (fun i h => zt_in1 h) (fun i h => zt_in2 h) (fun i h => zt_in3 h)⟩
theorem zt_del {n r : Nat} {lev sz pr : Nat → Nat} (O : zt_ok n lev sz pr) (h0 : 0 < r) (hr : r < n) :
    zt_ok (n - (sz r + 1)) (zt_dl r (sz r + 1) lev) (zt_dl r (sz r + 1) (zt_dsz (pr r) (sz r + 1) sz)) (zt_dpr r (sz r + 1) pr) := by
  have Sr := O.2.2.2 r hr
  have hz := Sr.1
  have Pr := O.2.2.1 r h0 hr
  have hpr := Pr.1
  have q0 := zt_prs O h0 hr
  obtain ⟨m, hm⟩ : ∃ m, m = sz r + 1 := ⟨_, rfl⟩
  rw [← hm]
  obtain ⟨lev', hl⟩ : ∃ f, f = zt_dl r m lev := ⟨_, rfl⟩
  have D1 : ∀ i, i < r → lev' i = lev i := fun i h => by rw [hl]; exact zt_dl1 h
  have D2 : ∀ i, r ≤ i → lev' i = lev (i + m) := fun i h => by rw [hl]; exact zt_dl2 h
  rw [← hl]
  refine ⟨by omega, (D1 0 h0).trans O.2.1, fun i i0 hi => ?_, fun i hi => ?_⟩
  · unfold zt_dpr
    rcases Nat.lt_or_ge i r with z | z
    · rw [if_pos z]
      have P := O.2.2.1 i i0 (by omega)
      have h1 := P.1
      refine ⟨h1, ?_, fun k k1 k2 => ?_⟩
      · rw [D1 i z, D1 _ (by omega)]; exact P.2.1
      · rw [D1 i z, D1 k (by omega)]; exact P.2.2 k k1 k2
    · rw [if_neg (by omega)]
      have P := O.2.2.1 (i + m) (by omega) (by omega)
      have h1 := P.1
      by_cases c : pr (i + m) < r
      · rw [if_pos c]
        refine ⟨by omega, ?_, fun k k1 k2 => ?_⟩
        · rw [D2 i z, D1 _ c]; exact P.2.1
        · rw [D2 i z]
          rcases Nat.lt_or_ge k r with y | y
          · rw [D1 k y]; exact P.2.2 k k1 (by omega)
          · rw [D2 k y]; exact P.2.2 (k + m) (by omega) (by omega)
      · rw [if_neg c]
        have hq : r + sz r < pr (i + m) := by
          rcases zt_prout O hr (show i + m < n by omega) (by omega) with y | y
          · exact absurd y c
          · exact y
        refine ⟨by omega, ?_, fun k k1 k2 => ?_⟩
        · rw [D2 i z, D2 _ (by omega), show pr (i + m) - m + m = pr (i + m) by omega]; exact P.2.1
        · rw [D2 i z, D2 k (by omega)]; exact P.2.2 (k + m) (by omega) (by omega)
  · rcases Nat.lt_or_ge i r with z | z
    · rw [zt_dl1 z]
      have Si := O.2.2.2 i (by omega)
      unfold zt_dsz
      by_cases c : i ≤ pr r ∧ pr r ≤ i + sz i
      · rw [if_pos c]
        have q1 := zt_nest O (show i < n by omega) c.1 c.2
        have q2 := zt_nest O (show i < n by omega) (show i ≤ r by omega) (by omega)
        have h1 := Si.1
        refine ⟨by omega, fun k k1 k2 => ?_, fun k1 => ?_⟩
        · rw [D1 i z]
          rcases Nat.lt_or_ge k r with y | y
          · rw [D1 k y]; exact Si.2.1 k k1 (by omega)
          · rw [D2 k y]; exact Si.2.1 (k + m) (by omega) (by omega)
        · rw [D1 i z, D2 _ (by omega), show i + (sz i - m) + 1 + m = i + sz i + 1 by omega]
          exact Si.2.2 (by omega)
      · rw [if_neg c]
        have hend : i + sz i < r := by
          rcases Nat.lt_or_ge (i + sz i) r with y | y
          · exact y
          · exfalso
            have a := (zt_asS Si hr).mpr ⟨by omega, y⟩
            rcases (zt_asP Pr).mp a with e | e
            · omega
            · exact c ((zt_asS Si (by omega)).mp e)
        refine ⟨by omega, fun k k1 k2 => ?_, fun k1 => ?_⟩
        · rw [D1 i z, D1 k (by omega)]; exact Si.2.1 k k1 k2
        · rw [D1 i z]
          rcases Nat.lt_or_ge (i + sz i + 1) r with y | y
          · rw [D1 _ y]; exact Si.2.2 (by omega)
          · have e : i + sz i + 1 = r := by omega
            rw [e, D2 r (Nat.le_refl _)]
            have l1 := Si.2.2 (by omega)
            have l2 := Sr.2.2 (by omega)
            rw [e] at l1
            rw [show r + sz r + 1 = r + m by omega] at l2
            omega
    · rw [zt_dl2 z]
      have Si := O.2.2.2 (i + m) (by omega)
      have e : zt_dsz (pr r) m sz (i + m) = sz (i + m) := by
        unfold zt_dsz
        exact if_neg (by omega)
      rw [e]
      have h1 := Si.1
      refine ⟨by omega, fun k k1 k2 => ?_, fun k1 => ?_⟩
      · rw [D2 i z, D2 k (by omega)]; exact Si.2.1 (k + m) (by omega) (by omega)
      · rw [D2 i z, D2 _ (by omega), show i + sz (i + m) + 1 + m = i + m + sz (i + m) + 1 by omega]
        exact Si.2.2 (by omega)
end
section
/-! ===== how the arrays show the abstract tree ===== -/
def zr_O (Dm : Nat → Prop) (ord : Nat → Nat) (A R : Nat → Int32) : Prop := ∀ i, Dm i → A i = nI (ord i) ∧ R (ord i) = nI i
def zr_c (Dm : Nat → Prop) (ord f : Nat → Nat) (A : Nat → Int32) : Prop := ∀ i, Dm i → A (ord i) = nI (f i)
def zr_P (Dm : Nat → Prop) (ord pr : Nat → Nat) (A : Nat → Int32) : Prop := ∀ i, Dm i → A (ord i) = if i = 0 then -1 else nI (ord (pr i))
def zr_M (Dm : Nat → Prop) (f : Nat → Nat) (W : Nat) (A : Nat → Int32) : Prop := ∀ l, l < W → ∀ b, b < 32 → (bt (A l) b = true ↔ Dm b ∧ f b = l)
def zr_U (n : Nat) (ord : Nat → Nat) (u : Int32) : Prop := ∀ x, x < 32 → (bt u x = true ↔ ∃ i, i < n ∧ ord i = x)
def zr_T (L D B n : Nat) (ord lev lab sz pr : Nat → Nat) : Prop :=
  zt_ok n lev sz pr ∧ (n ≤ L ∧ L ≤ 32 ∧ D ≤ 8 ∧ B ≤ 6) ∧ ord 0 = 0 ∧ (∀ i, i < n → ord i < L ∧ lev i ≤ D ∧ lab i < B) ∧ (∀ i j, i < n → j < n → ord i = ord j → i = j)
def zr_X (n : Nat) (ord lev lab sz pr : Nat → Nat) (xord xrk xpar xlab xlev xsz xlm xvm : Nat → Int32) : Prop :=
  zr_O (· < n) ord xord xrk ∧ zr_P (· < n) ord pr xpar ∧ zr_c (· < n) ord lab xlab ∧ zr_c (· < n) ord lev xlev ∧ zr_c (· < n) ord sz xsz ∧ zr_M (· < n) lab 6 xlm ∧ zr_M (· < n) lev 10 xvm
def zr_Y (n : Nat) (ord lab pr : Nat → Nat) (yord ypar ylab : Nat → Int32) : Prop :=
  (∀ i, i < n → yord i = nI (ord i)) ∧ zr_P (· < n) ord pr ypar ∧ zr_c (· < n) ord lab ylab
def zr_lv (n : Nat) (ord : Nat → Nat) (x : Int32) : Prop := ∃ i, i < n ∧ x = nI (ord i)
def zr_at (sz : Nat → Nat) (md t : Nat) : Nat := if md = 2 then t else if md = 0 then t + 1 else t + sz t + 1
def zr_pp (pr : Nat → Nat) (md t : Nat) : Nat := if md < 2 then t else pr t
theorem zr_place {n : Nat} {lev sz pr : Nat → Nat} (O : zt_ok n lev sz pr) {md t : Nat} (ht : t < n) (hm : md < 4) (h2 : 2 ≤ md → 0 < t) : zt_pl n lev sz (zr_pp pr md t) (zr_at sz md t) := by
  have St := O.2.2.2 t ht
  have h1 := St.1
  unfold zr_pp zr_at
  by_cases c : md < 2
  · rw [if_pos c, if_neg (by omega)]
    by_cases c0 : md = 0
    · rw [if_pos c0]
      refine ⟨ht, by omega, by omega, fun h => ?_⟩
      have P := O.2.2.1 (t + 1) (by omega) h
      have h3 := P.1
      rcases Nat.lt_or_ge (pr (t + 1)) t with z | z
      · have := P.2.2 t z (by omega); omega
      · have e : pr (t + 1) = t := by omega
        rw [P.2.1, e]; omega
    · rw [if_neg c0]
      refine ⟨ht, by omega, by omega, fun h => ?_⟩
      have := St.2.2 h; omega
  · rw [if_neg c]
    have t0 := h2 (by omega)
    have P := O.2.2.1 t t0 ht
    have h3 := P.1
    have q := zt_prs O t0 ht
    by_cases c2 : md = 2
    · rw [if_pos c2]
      exact ⟨by omega, by omega, by omega, fun h => by have := P.2.1; omega⟩
    · rw [if_neg c2, if_neg (by omega)]
      have q2 := zt_nest O (show pr t < n by omega) (show pr t ≤ t by omega) q
      refine ⟨by omega, by omega, by omega, fun h => ?_⟩
      have := St.2.2 h
      have := P.2.1; omega
theorem zr_ord0 {L D B n : Nat} {ord lev lab sz pr : Nat → Nat} (T : zr_T L D B n ord lev lab sz pr) {i : Nat} (hi : i < n) : ord i = 0 ↔ i = 0 := by
  obtain ⟨O, hb, h0, hr, hj⟩ := T
  constructor
  · intro h; exact hj i 0 hi O.1 (by omega)
  · intro h; rw [h]; exact h0
theorem zr_nI0 {L D B n : Nat} {ord lev lab sz pr : Nat → Nat} (T : zr_T L D B n ord lev lab sz pr) {i : Nat} (hi : i < n) : nI (ord i) = 0 ↔ i = 0 := by
  have h := T.2.2.2.1 i hi
  have := T.2.1
  rw [← nI_0, nI_eq (by omega) (by omega)]
  exact zr_ord0 T hi
theorem zr_nIj {L D B n : Nat} {ord lev lab sz pr : Nat → Nat} (T : zr_T L D B n ord lev lab sz pr) {i j : Nat} (hi : i < n) (hj : j < n) : nI (ord i) = nI (ord j) ↔ i = j := by
  have h := T.2.2.2.1 i hi
  have h' := T.2.2.2.1 j hj
  have := T.2.1
  rw [nI_eq (by omega) (by omega)]
  exact ⟨T.2.2.2.2 i j hi hj, fun e => by rw [e]⟩
theorem zb_iff {a b : Bool} (h : a = true ↔ b = true) : a = b := by
  cases a <;> cases b <;> simp at h ⊢
theorem zb_and1 (x : Int32) {k : Nat} (hk : k < 32) : ((x.toUInt32 >>> ((nI k).toUInt32 &&& Int32.toUInt32 31)).toInt32 &&& 1) = 0 ↔ bt x k = false := by
  constructor
  · intro h
    have := congrArg (fun z => bt z 0) h
    simp only [b_and, b_ushr k hk, b_0] at this
    rw [show bt 1 0 = true from by decide, Bool.and_true] at this
    exact this
  · intro h
    apply b_ext
    intro i hi
    rw [b_and, b_ushr k hk, b_0]
    have t : ∀ i, i < 32 → i ≠ 0 → bt 1 i = false := by decide +kernel
    by_cases z : i = 0
    · subst z; rw [Nat.add_zero, h]; rfl
    · rw [t i hi z, Bool.and_false]
theorem zr_lvd (n : Nat) (ord : Nat → Nat) (x : Int32) : zr_lv n ord x ∨ ¬ zr_lv n ord x := Classical.em _
theorem zr_lvU {L D B n : Nat} {ord lev lab sz pr : Nat → Nat} {u : Int32} (T : zr_T L D B n ord lev lab sz pr) (U : zr_U n ord u) {k : Nat} (hk : k < 32) : bt u k = true ↔ zr_lv n ord (nI k) := by
  rw [U k hk]
  constructor
  · rintro ⟨i, hi, e⟩; exact ⟨i, hi, by rw [e]⟩
  · rintro ⟨i, hi, e⟩
    have h := T.2.2.2.1 i hi
    have := T.2.1
    exact ⟨i, hi, ((nI_eq (by omega) (by omega)).mp e).symm⟩
end
section
section
variable {xL xD xI xB xn xu xbl xfl xfo xfh xpl xpo xrm xrc : Int32} {xord xrk xpar xlab xlev xsz xlm xvm xbn xbb xbv xbs xlin xgl xgv xgs xgst xpc xpn xpm xoa xsat : Nat → Int32}
theorem zx_bitCount {post : Int32 → Prop} {p0 : Int32} (h : post (nI (zb_ls p0).length)) : wpX_bitCount post (xL, xD, xI, xB, xn, xu, xbl, xfl, xfo, xfh, xpl, xpo, xrm, xrc, xord, xrk, xpar, xlab, xlev, xsz, xlm, xvm, xbn, xbb, xbv, xbs, xlin, xgl, xgv, xgs, xgst, xpc, xpn, xpm, xoa, xsat) p0 := by
  unfold wpX_bitCount
  intro a ea b eb c ec
  rw [zb_sw ea eb ec]
  exact h
theorem zx_lowBits {post : Int32 → Prop} {n : Nat} (hn : n ≤ 32) (h : post (zb_lo n)) : wpX_lowBits post (xL, xD, xI, xB, xn, xu, xbl, xfl, xfo, xfh, xpl, xpo, xrm, xrc, xord, xrk, xpar, xlab, xlev, xsz, xlm, xvm, xbn, xbb, xbv, xbs, xlin, xgl, xgv, xgs, xgst, xpc, xpn, xpm, xoa, xsat) (nI n) := by
  unfold zb_lo at h
  unfold wpX_lowBits
  by_cases c : n < 32
  · rw [if_pos c] at h
    exact br_t (nI_lt (b := 32) c (by decide)) h
  · rw [if_neg c] at h
    exact br_f (nI_nlt (b := 32) (by omega) (by omega)) h
def zb_sp (a b : Nat) : Int32 := zb_lo b &&& (zb_lo a ^^^ (-1))
theorem zb_spb {a b i : Nat} (hi : i < 32) : bt (zb_sp a b) i = true ↔ a ≤ i ∧ i < b := by
  unfold zb_sp
  rw [b_and, zb_not _ hi, zb_lob hi, zb_lob hi]
  simp
  omega
theorem zx_span {post : Int32 → Prop} {a b : Nat} (ha : a ≤ 32) (hb : b ≤ 32) (h : post (zb_sp a b)) : wpX_span post (xL, xD, xI, xB, xn, xu, xbl, xfl, xfo, xfh, xpl, xpo, xrm, xrc, xord, xrk, xpar, xlab, xlev, xsz, xlm, xvm, xbn, xbb, xbv, xbs, xlin, xgl, xgv, xgs, xgst, xpc, xpn, xpm, xoa, xsat) (nI a) (nI b) := by
  unfold wpX_span
  exact zx_lowBits hb (zx_lowBits ha h)
theorem zx_select {post : Int32 → Prop} {M : Int32} {k : Nat} (hk : k < (zb_ls M).length) (h : post (nI (zb_ls M)[k])) : wpX_selectBit post (xL, xD, xI, xB, xn, xu, xbl, xfl, xfo, xfh, xpl, xpo, xrm, xrc, xord, xrk, xpar, xlab, xlev, xsz, xlm, xvm, xbn, xbb, xbv, xbs, xlin, xgl, xgv, xgs, xgst, xpc, xpn, xpm, xoa, xsat) M (nI k) := by
  have hk32 := zb_len M
  have key : ∀ d j (R : Int32), j + d = k → zb_ls R = (zb_ls M).drop j → wX_selectBit_5 post (nI k) xL xD xI xB xn xu xbl xfl xfo xfh xpl xpo xrm xrc xord xrk xpar xlab xlev xsz xlm xvm xbn xbb xbv xbs xlin xgl xgv xgs xgst xpc xpn xpm xoa xsat (d + 1) R (nI j) := by
    intro d
    induction d with
    | zero =>
      intro j R hj hR
      have e : j = k := by omega
      subst e
      refine br_t (nI_le (Nat.le_refl _) (by omega)) (zx_bitCount ?_)
      rw [List.drop_eq_getElem_cons hk] at hR
      obtain ⟨-, e2, -, e3⟩ := zb_clr hR
      rw [e2, zb_lols (by omega), List.length_range]
      exact h
    | succ d ih =>
      intro j R hj hR
      refine br_f (nI_ge (by omega) (by omega)) (nm_e (nm_r (nI_1 j) (ih (j + 1) _ (by omega) ?_)))
      rw [List.drop_eq_getElem_cons (show j < (zb_ls M).length by omega)] at hR
      exact (zb_clr hR).1
  unfold wpX_selectBit
  exact ⟨k + 1, key k 0 M (by omega) rfl⟩
theorem zb_ne {M : Int32} : M = 0 ↔ ∀ i, i < 32 → bt M i = false := by
  constructor
  · intro h i _; rw [h, b_0]
  · intro h; apply b_ext; intro i hi; rw [h i hi, b_0]
theorem zb_ex {M : Int32} (h : ¬ M = 0) : ∃ i, i < 32 ∧ bt M i = true := by
  apply Classical.byContradiction
  intro z
  apply h
  rw [zb_ne]
  intro i hi
  cases e : bt M i
  · rfl
  · exact absurd ⟨i, hi, e⟩ z
section
variable {L D B n : Nat} {ord lev lab sz pr : Nat → Nat}
theorem zx_live1 {post : Int32 → Prop} (T : zr_T L D B n ord lev lab sz pr) (U : zr_U n ord xu) {i : Nat} (hi : i < n) (h : post 1) : wpX_isLive post (nI L, xD, xI, xB, xn, xu, xbl, xfl, xfo, xfh, xpl, xpo, xrm, xrc, xord, xrk, xpar, xlab, xlev, xsz, xlm, xvm, xbn, xbb, xbv, xbs, xlin, xgl, xgv, xgs, xgst, xpc, xpn, xpm, xoa, xsat) (nI (ord i)) := by
  have h1 := T.2.2.2.1 i hi
  have h2 := T.2.1
  unfold wpX_isLive
  refine br_f (nI_pos (by omega)) (br_f (nI_ge (by omega) (by omega)) (br_f ?_ h))
  rw [zb_and1 xu (by omega), (zr_lvU T U (by omega)).mpr ⟨i, hi, rfl⟩]
  exact Bool.noConfusion
theorem zx_live0 {post : Int32 → Prop} (T : zr_T L D B n ord lev lab sz pr) (U : zr_U n ord xu) {x : Int32} (hx : ¬ zr_lv n ord x) (h : post 0) : wpX_isLive post (nI L, xD, xI, xB, xn, xu, xbl, xfl, xfo, xfh, xpl, xpo, xrm, xrc, xord, xrk, xpar, xlab, xlev, xsz, xlm, xvm, xbn, xbb, xbv, xbs, xlin, xgl, xgv, xgs, xgst, xpc, xpn, xpm, xoa, xsat) x := by
  have h2 := T.2.1
  unfold wpX_isLive
  by_cases c : x < 0
  · exact br_t c h
  · refine br_f c ?_
    obtain ⟨j, hj, rfl⟩ := nI_of c
    by_cases c2 : L ≤ j
    · exact br_t (nI_le c2 hj) h
    · refine br_f (nI_ge (by omega) (by omega)) (br_t ?_ h)
      rw [zb_and1 xu (by omega)]
      cases e : bt xu j
      · rfl
      · exact absurd ((zr_lvU T U (by omega)).mp e) hx
theorem zx_placeLevel {post : Int32 → Prop} (T : zr_T L D B n ord lev lab sz pr) (V : zr_c (· < n) ord lev xlev) {t md : Nat} (ht : t < n) (hm : md < 4) (h2 : 2 ≤ md → 0 < t)
    (h : post (nI (lev (zr_pp pr md t) + 1))) : wpX_placeLevel post (xL, xD, xI, xB, xn, xu, xbl, xfl, xfo, xfh, xpl, xpo, xrm, xrc, xord, xrk, xpar, xlab, xlev, xsz, xlm, xvm, xbn, xbb, xbv, xbs, xlin, xgl, xgv, xgs, xgst, xpc, xpn, xpm, xoa, xsat) (nI (ord t)) (nI md) := by
  have h1 := T.2.2.2.1 t ht
  have hb := T.2.1
  have e := V t ht
  have c : (nI (ord t)).toNatClampNeg = ord t := nI_clamp (by omega)
  have v : vp_in (nI (ord t)) 32 := vp_in_nI (by omega) (by omega)
  unfold wpX_placeLevel
  unfold zr_pp at h
  by_cases z : md < 2
  · rw [if_pos z] at h
    refine br_t (nI_lt (b := 2) z (by decide)) ⟨v, ?_⟩
    rw [c, e, nI_1]; exact h
  · rw [if_neg z] at h
    refine br_f (nI_nlt (b := 2) (by omega) (by omega)) ⟨v, ?_⟩
    rw [c, e, (T.1.2.2.1 t (h2 (by omega)) ht).2.1]; exact h
theorem zx_placeRank {post : Int32 → Prop} (T : zr_T L D B n ord lev lab sz pr) (O : zr_O (· < n) ord xord xrk) (V : zr_c (· < n) ord sz xsz) {t md : Nat} (ht : t < n) (hm : md < 4)
    (h : post (nI (zr_at sz md t))) : wpX_placeRank post (xL, xD, xI, xB, xn, xu, xbl, xfl, xfo, xfh, xpl, xpo, xrm, xrc, xord, xrk, xpar, xlab, xlev, xsz, xlm, xvm, xbn, xbb, xbv, xbs, xlin, xgl, xgv, xgs, xgst, xpc, xpn, xpm, xoa, xsat) (nI (ord t)) (nI md) := by
  have h1 := T.2.2.2.1 t ht
  have hb := T.2.1
  have e := V t ht
  have e2 := (O t ht).2
  have c : (nI (ord t)).toNatClampNeg = ord t := nI_clamp (by omega)
  have v : vp_in (nI (ord t)) 32 := vp_in_nI (by omega) (by omega)
  unfold wpX_placeRank
  unfold zr_at at h
  refine ⟨v, nm_r (e' := nI t) (by rw [c, e2]) ?_⟩
  by_cases z2 : md = 2
  · rw [if_pos z2] at h
    exact br_t (by rw [z2]; rfl) h
  · rw [if_neg z2] at h
    refine br_f (fun q => z2 ((nI_eq (b := 2) (by omega) (by omega)).mp q)) ?_
    by_cases z0 : md = 0
    · rw [if_pos z0] at h
      refine br_t (by rw [z0]; rfl) ?_
      rw [nI_1]; exact h
    · rw [if_neg z0] at h
      refine br_f (fun q => z0 ((nI_eq (b := 0) (by omega) (by omega)).mp q)) ⟨v, ?_⟩
      rw [c, e, nI_add, nI_1]; exact h
theorem zx_isWithin {post : Int32 → Prop} (T : zr_T L D B n ord lev lab sz pr) (O : zr_O (· < n) ord xord xrk) (V : zr_c (· < n) ord sz xsz) {t r : Nat} (ht : t < n) (hr : r < n)
    (h1 : r ≤ t ∧ t ≤ r + sz r → post 1) (h0 : ¬ (r ≤ t ∧ t ≤ r + sz r) → post 0) : wpX_isWithin post (xL, xD, xI, xB, xn, xu, xbl, xfl, xfo, xfh, xpl, xpo, xrm, xrc, xord, xrk, xpar, xlab, xlev, xsz, xlm, xvm, xbn, xbb, xbv, xbs, xlin, xgl, xgv, xgs, xgst, xpc, xpn, xpm, xoa, xsat) (nI (ord t)) (nI (ord r)) := by
  have a1 := T.2.2.2.1 t ht
  have a2 := T.2.2.2.1 r hr
  have hb := T.2.1
  have S := (T.1.2.2.2 r hr).1
  have ct : (nI (ord t)).toNatClampNeg = ord t := nI_clamp (by omega)
  have cr : (nI (ord r)).toNatClampNeg = ord r := nI_clamp (by omega)
  have vt : vp_in (nI (ord t)) 32 := vp_in_nI (by omega) (by omega)
  have vr : vp_in (nI (ord r)) 32 := vp_in_nI (by omega) (by omega)
  unfold wpX_isWithin
  refine ⟨vt, vr, nm_r (e' := nI t - nI r) (by rw [ct, cr, (O t ht).2, (O r hr).2]) ?_⟩
  rcases Nat.lt_or_ge t r with z | z
  · exact br_t (pk_sneg (by omega) z) (h0 (by omega))
  · rw [pk_sub z]
    refine br_f (nI_pos (by omega)) ⟨vr, ?_⟩
    rw [cr, V r hr]
    rcases Nat.lt_or_ge (sz r) (t - r) with y | y
    · exact br_t (nI_lt y (by omega)) (h0 (by omega))
    · exact br_f (nI_nlt y (by omega)) (h1 (by omega))
theorem zx_height {post : Int32 → Prop} (T : zr_T L D B n ord lev lab sz pr) (O : zr_O (· < n) ord xord xrk) (V : zr_c (· < n) ord sz xsz) (W : zr_c (· < n) ord lev xlev) (M : zr_M (· < n) lev 10 xvm) {r : Nat} (hr : r < n)
    (h : ∀ hm, (∀ k, r ≤ k → k ≤ r + sz r → lev k ≤ lev r + hm) → (∃ k, r ≤ k ∧ k ≤ r + sz r ∧ lev k = lev r + hm) → hm ≤ D → post (nI hm)) : wpX_heightOf post (xL, nI D, xI, xB, xn, xu, xbl, xfl, xfo, xfh, xpl, xpo, xrm, xrc, xord, xrk, xpar, xlab, xlev, xsz, xlm, xvm, xbn, xbb, xbv, xbs, xlin, xgl, xgv, xgs, xgst, xpc, xpn, xpm, xoa, xsat) (nI (ord r)) := by
  have a2 := T.2.2.2.1 r hr
  have hb := T.2.1
  have Sr := T.1.2.2.2 r hr
  have S := Sr.1
  have cr : (nI (ord r)).toNatClampNeg = ord r := nI_clamp (by omega)
  have vr : vp_in (nI (ord r)) 32 := vp_in_nI (by omega) (by omega)
  have key : ∀ d x hm, x + d = D + 1 → lev r < x → (∃ k, r ≤ k ∧ k ≤ r + sz r ∧ lev k = lev r + hm) → hm ≤ D → (∀ k, r ≤ k → k ≤ r + sz r → lev k < x → lev k ≤ lev r + hm) →
      wX_heightOf_36 post (nI (ord r)) (zb_sp (r + 1) (r + 1 + sz r)) xL (nI D) xI xB xn xu xbl xfl xfo xfh xpl xpo xrm xrc xord xrk xpar xlab xlev xsz xlm xvm xbn xbb xbv xbs xlin xgl xgv xgs xgst xpc xpn xpm xoa xsat (d + 1) (nI hm) (nI x) := by
    intro d
    induction d with
    | zero =>
      intro x hm hx hl he hD hall
      refine br_t (nI_lt (by omega) (by omega)) (h hm (fun k k1 k2 => hall k k1 k2 ?_) he hD)
      have := (T.2.2.2.1 k (by omega)).2.1
      omega
    | succ d ih =>
      intro x hm hx hl he hD hall
      have cx : (nI x).toNatClampNeg = x := nI_clamp (by omega)
      refine br_f (nI_nlt (by omega) (by omega)) ⟨vp_in_nI (by omega) (by omega), ?_⟩
      rw [cx]
      refine br_c (fun z => nm_r (nI_1 x) (ih (x + 1) hm (by omega) (by omega) he hD fun k k1 k2 k3 => ?_)) (fun z => ⟨vr, nm_r (e' := nI (x - lev r)) (by rw [cr, W r hr, pk_sub (by omega)]) (nm_r (nI_1 x) (ih (x + 1) (x - lev r) (by omega) (by omega) ?_ (by omega) fun k k1 k2 k3 => by omega))⟩)
      · rcases Nat.lt_or_ge (lev k) x with y | y
        · exact hall k k1 k2 y
        · exfalso
          have e : lev k = x := by omega
          have hk : r < k := by
            rcases Nat.eq_or_lt_of_le k1 with q | q
            · rw [← q] at e; omega
            · exact q
          have b1 := zb_ne.mp z k (by omega)
          rw [b_and, (zb_spb (by omega)).mpr ⟨by omega, by omega⟩, (M x (by omega) k (by omega)).mpr ⟨by omega, e⟩] at b1
          exact absurd b1 (by decide)
      · obtain ⟨k, hk, hb⟩ := zb_ex z
        rw [b_and, Bool.and_eq_true, zb_spb hk, M x (by omega) k hk] at hb
        exact ⟨k, by omega, by omega, by omega⟩
  unfold wpX_heightOf
  refine ⟨vr, nm_r (e' := nI (r + 1)) (by rw [cr, (O r hr).2, nI_1]) ⟨vr, ?_⟩⟩
  rw [cr, V r hr, nI_add]
  refine zx_span (by omega) (by omega) ⟨vr, nm_r (e' := nI (lev r + 1)) (by rw [W r hr, nI_1]) ⟨D - lev r + 1, ?_⟩⟩
  exact key (D - lev r) (lev r + 1) 0 (by omega) (by omega) ⟨r, Nat.le_refl _, by omega, rfl⟩ (by omega) fun k k1 k2 k3 => by omega
end
end
end
section
/-! ===== X's edits: pieces ===== -/
theorem zr_pig : ∀ (N K : Nat) (f : Nat → Nat), (∀ x, x < K → ∃ j, j < N ∧ f j = x) → K ≤ N
  | 0, K, f, h => by
    rcases Nat.eq_zero_or_pos K with z | z
    · omega
    · obtain ⟨j, hj, -⟩ := h 0 z; omega
  | N + 1, K, f, h => by
    rcases Nat.eq_zero_or_pos K with z | z
    · omega
    · have := zr_pig N (K - 1) (fun j => if f j = K - 1 then f N else f j) (fun x hx => by
        obtain ⟨j, hj, e⟩ := h x (by omega)
        rcases Nat.lt_or_ge j N with y | y
        · refine ⟨j, y, ?_⟩
          show (if f j = K - 1 then f N else f j) = x
          rw [if_neg (by omega)]; exact e
        · have ej : j = N := by omega
          subst ej
          obtain ⟨i, hi, e2⟩ := h (K - 1) (by omega)
          have hi' : i < j := by
            rcases Nat.lt_or_ge i j with w | w
            · exact w
            · have : i = j := by omega
              subst this; omega
          refine ⟨i, hi', ?_⟩
          show (if f i = K - 1 then f j else f i) = x
          rw [if_pos e2]; exact e)
      omega
theorem zr_cu {Dm Dm' : Nat → Prop} {ord f : Nat → Nat} {A : Nat → Int32} {r : Nat} {v : Int32} (h : zr_c Dm ord f A) (hs : ∀ i, Dm' i → i = r ∨ Dm i) (hj : ∀ i, Dm i → ord i = ord r → i = r) (hv : v = nI (f r)) : zr_c Dm' ord f (upd A (ord r) v) := by
  intro i hi
  by_cases z : i = r
  · subst z; rw [pk_us]; exact hv
  · have hd := (hs i hi).resolve_left z
    rw [pk_un (fun e => z (hj i hd e))]
    exact h i hd
theorem zr_Pu {Dm Dm' : Nat → Prop} {ord f : Nat → Nat} {A : Nat → Int32} {r : Nat} {v : Int32} (h : zr_P Dm ord f A) (hs : ∀ i, Dm' i → i = r ∨ Dm i) (hj : ∀ i, Dm i → ord i = ord r → i = r) (hv : v = if r = 0 then -1 else nI (ord (f r))) : zr_P Dm' ord f (upd A (ord r) v) := by
  intro i hi
  by_cases z : i = r
  · subst z; rw [pk_us]; exact hv
  · have hd := (hs i hi).resolve_left z
    rw [pk_un (fun e => z (hj i hd e))]
    exact h i hd
theorem zr_Ou {Dm Dm' : Nat → Prop} {ord : Nat → Nat} {A R : Nat → Int32} {r : Nat} (h : zr_O Dm ord A R) (hs : ∀ i, Dm' i → i = r ∨ Dm i) (hj : ∀ i, Dm i → ord i = ord r → i = r) : zr_O Dm' ord (upd A r (nI (ord r))) (upd R (ord r) (nI r)) := by
  intro i hi
  by_cases z : i = r
  · subst z; rw [pk_us, pk_us]; exact ⟨rfl, rfl⟩
  · have hd := (hs i hi).resolve_left z
    rw [pk_un z, pk_un (fun e => z (hj i hd e))]
    exact h i hd
theorem zr_Mu {Dm Dm' : Nat → Prop} {f : Nat → Nat} {W : Nat} {A : Nat → Int32} {r : Nat} (h : zr_M Dm f W A) (hs : ∀ i, Dm' i ↔ i = r ∨ Dm i) (hr : r < 32) : zr_M Dm' f W (upd A (f r) (A (f r) ||| zb_1 r)) := by
  intro l hl b hb
  by_cases z : l = f r
  · subst z
    rw [pk_us, b_or, zb_1b hr hb, Bool.or_eq_true, h _ hl b hb, decide_eq_true_eq, hs b]
    constructor
    · rintro (⟨a, e⟩ | e)
      · exact ⟨Or.inr a, e⟩
      · subst e; exact ⟨Or.inl rfl, rfl⟩
    · rintro ⟨e | a, e2⟩
      · exact Or.inr e
      · exact Or.inl ⟨a, e2⟩
  · rw [pk_un z, h l hl b hb, hs b]
    constructor
    · rintro ⟨a, e⟩; exact ⟨Or.inr a, e⟩
    · rintro ⟨e | a, e2⟩
      · subst e; exact absurd e2.symm z
      · exact ⟨a, e2⟩
/-! masks under a gap opened, a gap closed -/
def zb_og (a m : Nat) (M : Int32) : Int32 := (M &&& zb_lo a) ||| ((M &&& (zb_lo a ^^^ (-1))) <<< (nI m &&& 31))
def zb_cg (a m : Nat) (M : Int32) : Int32 := (M &&& zb_lo a) ||| (((M.toUInt32 >>> ((nI m).toUInt32 &&& Int32.toUInt32 31)).toInt32) &&& (zb_lo a ^^^ (-1)))
theorem zb_ogb {a m i : Nat} {M : Int32} (hm : m < 32) (hi : i < 32) : bt (zb_og a m M) i = true ↔ (i < a ∧ bt M i = true) ∨ (a + m ≤ i ∧ bt M (i - m) = true) := by
  unfold zb_og
  rw [b_or, b_and, zb_lob hi, b_shl m hm _ hi]
  by_cases h : m ≤ i
  · rw [b_and, zb_not _ (by omega), zb_lob (by omega)]
    simp [h]
    constructor
    · rintro (⟨x, y⟩ | ⟨x, y⟩)
      · exact Or.inl ⟨y, x⟩
      · exact Or.inr ⟨by omega, x⟩
    · rintro (⟨x, y⟩ | ⟨x, y⟩)
      · exact Or.inl ⟨y, x⟩
      · exact Or.inr ⟨y, by omega⟩
  · simp [h]
    constructor
    · rintro ⟨x, y⟩; exact Or.inl ⟨y, x⟩
    · rintro (⟨x, y⟩ | ⟨x, y⟩)
      · exact ⟨y, x⟩
      · omega
theorem zb_cgb {a m i : Nat} {M : Int32} (hm : m < 32) (hi : i < 32) : bt (zb_cg a m M) i = true ↔ (i < a ∧ bt M i = true) ∨ (a ≤ i ∧ bt M (i + m) = true) := by
  unfold zb_cg
  rw [b_or, b_and, zb_lob hi, b_and, b_ushr m hm, zb_not _ hi, zb_lob hi, Nat.add_comm m i]
  simp
  constructor
  · rintro (⟨x, y⟩ | ⟨x, y⟩)
    · exact Or.inl ⟨y, x⟩
    · exact Or.inr ⟨y, x⟩
  · rintro (⟨x, y⟩ | ⟨x, y⟩)
    · exact Or.inl ⟨y, x⟩
    · exact Or.inr ⟨y, x⟩
section
variable {xL xD xI xB xn xu xbl xfl xfo xfh xpl xpo xrm xrc : Int32} {xord xrk xpar xlab xlev xsz xlm xvm xbn xbb xbv xbs xlin xgl xgv xgs xgst xpc xpn xpm xoa xsat : Nat → Int32}
theorem zx_loadFragment {post : SX → Prop} {m : Nat} (hm : m ≤ 32) (h : ∀ bb bv bs, (∀ i, i < m → bb i = xgl i ∧ bv i = xgv i ∧ bs i = xgs i) → post (xL, xD, xI, xB, xn, xu, nI m, nI m, xfo, xfh, xpl, xpo, xrm, xrc, xord, xrk, xpar, xlab, xlev, xsz, xlm, xvm, xbn, bb, bv, bs, xlin, xgl, xgv, xgs, xgst, xpc, xpn, xpm, xoa, xsat)) : wpX_loadFragment post (xL, xD, xI, xB, xn, xu, xbl, nI m, xfo, xfh, xpl, xpo, xrm, xrc, xord, xrk, xpar, xlab, xlev, xsz, xlm, xvm, xbn, xbb, xbv, xbs, xlin, xgl, xgv, xgs, xgst, xpc, xpn, xpm, xoa, xsat) := by
  have key : ∀ d i (bb bv bs : Nat → Int32), i + d = m → (∀ j, j < i → bb j = xgl j ∧ bv j = xgv j ∧ bs j = xgs j) → wX_loadFragment_10 post xL xD xI xB xn xu (nI m) (nI m) xfo xfh xpl xpo xrm xrc (d + 1) (nI i) xord xrk xpar xlab xlev xsz xlm xvm xbn bb bv bs xlin xgl xgv xgs xgst xpc xpn xpm xoa xsat := by
    intro d
    induction d with
    | zero =>
      intro i bb bv bs hi hI
      have e : i = m := by omega
      subst e
      exact br_t (nI_le (Nat.le_refl _) (by omega)) (h bb bv bs hI)
    | succ d ih =>
      intro i bb bv bs hi hI
      have c : (nI i).toNatClampNeg = i := nI_clamp (by omega)
      have v : vp_in (nI i) 32 := vp_in_nI (by omega) (by omega)
      refine br_f (nI_ge (by omega) (by omega)) ⟨v, v, nm_e ⟨v, v, nm_e ⟨v, v, nm_e (nm_r (nI_1 i) (ih (i + 1) _ _ _ (by omega) ?_))⟩⟩⟩
      rw [c]
      refine lt_s (fun j hj => ?_) ⟨pk_us, pk_us, pk_us⟩
      rw [pk_un (by omega), pk_un (by omega), pk_un (by omega)]
      exact hI j hj
  unfold wpX_loadFragment
  exact ⟨m + 1, key m 0 _ _ _ (by omega) lt_0⟩
def zr_B (m : Nat) (bno blab bv bs : Nat → Nat) (N Lb V S : Nat → Int32) : Prop := ∀ i, i < m → N i = nI (bno i) ∧ Lb i = nI (blab i) ∧ V i = nI (bv i) ∧ S i = nI (bs i)
section
variable {L D B n : Nat} {ord lev lab sz pr : Nat → Nat}
theorem zx_loadSubtree {post : SX → Prop} (T : zr_T L D B n ord lev lab sz pr) (X : zr_X n ord lev lab sz pr xord xrk xpar xlab xlev xsz xlm xvm) {r : Nat} (hr : r < n)
    (h : ∀ bn bb bv bs, zr_B (sz r + 1) (fun i => ord (r + i)) (fun i => lab (r + i)) (fun i => lev (r + i) - lev r) (fun i => sz (r + i)) bn bb bv bs → post (xL, xD, xI, xB, xn, xu, nI (sz r + 1), xfl, xfo, xfh, xpl, xpo, xrm, xrc, xord, xrk, xpar, xlab, xlev, xsz, xlm, xvm, bn, bb, bv, bs, xlin, xgl, xgv, xgs, xgst, xpc, xpn, xpm, xoa, xsat)) : wpX_loadSubtree post (xL, xD, xI, xB, xn, xu, xbl, xfl, xfo, xfh, xpl, xpo, xrm, xrc, xord, xrk, xpar, xlab, xlev, xsz, xlm, xvm, xbn, xbb, xbv, xbs, xlin, xgl, xgv, xgs, xgst, xpc, xpn, xpm, xoa, xsat) (nI (ord r)) := by
  have a2 := T.2.2.2.1 r hr
  have hb := T.2.1
  have Sr := T.1.2.2.2 r hr
  have S := Sr.1
  have cr : (nI (ord r)).toNatClampNeg = ord r := nI_clamp (by omega)
  have vr : vp_in (nI (ord r)) 32 := vp_in_nI (by omega) (by omega)
  have key : ∀ d i (bn bb bv bs : Nat → Int32), i + d = sz r + 1 → zr_B i (fun i => ord (r + i)) (fun i => lab (r + i)) (fun i => lev (r + i) - lev r) (fun i => sz (r + i)) bn bb bv bs →
      wX_loadSubtree_21 post (nI (ord r)) (nI r) xL xD xI xB xn xu (nI (sz r + 1)) xfl xfo xfh xpl xpo xrm xrc (d + 1) (nI i) xord xrk xpar xlab xlev xsz xlm xvm bn bb bv bs xlin xgl xgv xgs xgst xpc xpn xpm xoa xsat := by
    intro d
    induction d with
    | zero =>
      intro i bn bb bv bs hi hI
      have e : i = sz r + 1 := by omega
      subst e
      exact br_t (nI_le (Nat.le_refl _) (by omega)) (h bn bb bv bs hI)
    | succ d ih =>
      intro i bn bb bv bs hi hI
      have hri : r + i < n := by omega
      have a3 := T.2.2.2.1 (r + i) hri
      have c : (nI i).toNatClampNeg = i := nI_clamp (by omega)
      have cri : (nI (r + i)).toNatClampNeg = r + i := nI_clamp (by omega)
      have co : (nI (ord (r + i))).toNatClampNeg = ord (r + i) := nI_clamp (by omega)
      have v : vp_in (nI i) 32 := vp_in_nI (by omega) (by omega)
      have vo : vp_in (nI (ord (r + i))) 32 := vp_in_nI (by omega) (by omega)
      have lv : lev r ≤ lev (r + i) := zt_as_lev ((zt_asS Sr hri).mpr ⟨by omega, by omega⟩)
      refine br_f (nI_ge (by omega) (by omega)) ?_
      rw [nI_add]
      refine ⟨vp_in_nI (by omega) (by omega), nm_r (e' := nI (ord (r + i))) (by rw [cri]; exact (X.1 (r + i) hri).1) ⟨v, nm_e ⟨vo, v, nm_e ⟨vo, vr, v, nm_e ⟨vo, v, nm_e (nm_r (nI_1 i) (ih (i + 1) _ _ _ _ (by omega) ?_))⟩⟩⟩⟩⟩
      rw [c, co, cr, X.2.2.1 _ hri, X.2.2.2.1 _ hri, X.2.2.2.1 _ hr, X.2.2.2.2.1 _ hri, pk_sub lv]
      refine lt_s (fun j hj => ?_) ⟨pk_us, pk_us, pk_us, pk_us⟩
      rw [pk_un (by omega), pk_un (by omega), pk_un (by omega), pk_un (by omega)]
      exact hI j hj
  unfold wpX_loadSubtree
  exact ⟨vr, nm_r (e' := nI r) (by rw [cr]; exact (X.1 r hr).2) ⟨vr, nm_r (e' := nI (sz r + 1)) (by rw [cr, X.2.2.2.2.1 r hr, nI_1]) ⟨sz r + 1 + 1, key (sz r + 1) 0 _ _ _ _ (by omega) lt_0⟩⟩⟩
end
/-- the numbers given to a block: each the least free one -/
def zr_F (n : Nat) (ord : Nat → Nat) (m : Nat) (bno : Nat → Nat) : Prop := ∀ i, i < m → (∀ j, j < n → ord j ≠ bno i) ∧ (∀ j, j < i → bno j ≠ bno i) ∧ ∀ x, x < bno i → (∃ j, j < n ∧ ord j = x) ∨ ∃ j, j < i ∧ bno j = x
theorem zr_Flt {n m : Nat} {ord bno : Nat → Nat} (F : zr_F n ord m bno) {i : Nat} (hi : i < m) : bno i ≤ n + i := by
  refine zr_pig (n + i) (bno i) (fun j => if j < n then ord j else bno (j - n)) fun x hx => ?_
  rcases (F i hi).2.2 x hx with ⟨j, hj, e⟩ | ⟨j, hj, e⟩
  · exact ⟨j, by omega, by show (if j < n then ord j else bno (j - n)) = x; rw [if_pos hj]; exact e⟩
  · exact ⟨n + j, by omega, by show (if n + j < n then ord (n + j) else bno (n + j - n)) = x; rw [if_neg (by omega), Nat.add_sub_cancel_left]; exact e⟩
theorem zx_numberBlock {post : SX → Prop} {n m : Nat} {ord : Nat → Nat} (U : zr_U n ord xu) (hm : n + m ≤ 32)
    (h : ∀ bno bn u', (∀ i, i < m → bn i = nI (bno i)) → zr_F n ord m bno → (∀ x, x < 32 → (bt u' x = true ↔ (∃ j, j < n ∧ ord j = x) ∨ ∃ j, j < m ∧ bno j = x)) → post (xL, xD, xI, xB, xn, u', nI m, xfl, xfo, xfh, xpl, xpo, xrm, xrc, xord, xrk, xpar, xlab, xlev, xsz, xlm, xvm, bn, xbb, xbv, xbs, xlin, xgl, xgv, xgs, xgst, xpc, xpn, xpm, xoa, xsat)) : wpX_numberBlock post (xL, xD, xI, xB, xn, xu, nI m, xfl, xfo, xfh, xpl, xpo, xrm, xrc, xord, xrk, xpar, xlab, xlev, xsz, xlm, xvm, xbn, xbb, xbv, xbs, xlin, xgl, xgv, xgs, xgst, xpc, xpn, xpm, xoa, xsat) := by
  have key : ∀ d i (bno : Nat → Nat) (u : Int32) (bn : Nat → Int32), i + d = m → (∀ j, j < i → bn j = nI (bno j)) → zr_F n ord i bno → (∀ x, x < 32 → (bt u x = true ↔ (∃ j, j < n ∧ ord j = x) ∨ ∃ j, j < i ∧ bno j = x)) →
      wX_numberBlock_2 post xL xD xI xB xn (nI m) xfl xfo xfh xpl xpo xrm xrc (d + 1) (nI i) u xord xrk xpar xlab xlev xsz xlm xvm bn xbb xbv xbs xlin xgl xgv xgs xgst xpc xpn xpm xoa xsat := by
    intro d
    induction d with
    | zero =>
      intro i bno u bn hi h1 h2 h3
      have e : i = m := by omega
      subst e
      exact br_t (nI_le (Nat.le_refl _) (by omega)) (h bno bn u h1 h2 h3)
    | succ d ih =>
      intro i bno u bn hi h1 h2 h3
      have c : (nI i).toNatClampNeg = i := nI_clamp (by omega)
      have v : vp_in (nI i) 32 := vp_in_nI (by omega) (by omega)
      obtain ⟨b, t, hbt⟩ : ∃ b t, zb_ls (u ^^^ (-1)) = b :: t := by
        cases e : zb_ls (u ^^^ (-1)) with
        | cons b t => exact ⟨b, t, rfl⟩
        | nil =>
          exfalso
          have all : ∀ x, x < 32 → bt u x = true := by
            intro x hx
            cases q : bt u x
            · have : x ∈ zb_ls (u ^^^ (-1)) := zb_mem.mpr ⟨hx, by rw [zb_not _ hx, q]; rfl⟩
              rw [e] at this
              exact absurd this List.not_mem_nil
            · rfl
          have := zr_pig (n + i) 32 (fun j => if j < n then ord j else bno (j - n)) fun x hx => by
            rcases (h3 x hx).mp (all x hx) with ⟨j, hj, e⟩ | ⟨j, hj, e⟩
            · exact ⟨j, by omega, by show (if j < n then ord j else bno (j - n)) = x; rw [if_pos hj]; exact e⟩
            · exact ⟨n + j, by omega, by show (if n + j < n then ord (n + j) else bno (n + j - n)) = x; rw [if_neg (by omega), Nat.add_sub_cancel_left]; exact e⟩
          omega
      obtain ⟨-, e1, e2, hb⟩ := zb_clr hbt
      have fb : bt u b = false := by
        have := (zb_mem.mp (show b ∈ zb_ls (u ^^^ (-1)) by rw [hbt]; exact List.mem_cons_self)).2
        rw [zb_not _ hb] at this
        cases q : bt u b
        · rfl
        · rw [q] at this; exact absurd this (by decide)
      have lowb : ∀ x, x < b → bt u x = true := by
        intro x hx
        cases q : bt u x
        · have : x ∈ zb_ls (u ^^^ (-1)) := zb_mem.mpr ⟨by omega, by rw [zb_not _ (by omega), q]; rfl⟩
          rw [hbt] at this
          have hs := zb_srt (u ^^^ (-1))
          rw [hbt] at hs
          rcases List.mem_cons.mp this with z | z
          · omega
          · have := (List.pairwise_cons.mp hs).1 x z; omega
        · rfl
      refine br_f (nI_ge (by omega) (by omega)) (nm_e (nm_e (nm_e (zx_bitCount ⟨v, nm_e (nm_r (nI_1 i) ?_)⟩))))
      rw [e1, e2, c, zb_lols (by omega), List.length_range]
      have nb : ∀ j, j < i → (if j = i then b else bno j) = bno j := fun j hj => if_neg (by omega)
      refine ih (i + 1) (fun j => if j = i then b else bno j) _ _ (by omega) ?_ ?_ ?_
      · refine lt_s (fun j hj => ?_) ?_
        · rw [pk_un (by omega), nb j hj]; exact h1 j hj
        · rw [pk_us, if_pos rfl]
      · refine lt_s (fun j hj => ?_) ?_
        · obtain ⟨p1, p2, p3⟩ := h2 j hj
          refine ⟨?_, ?_, ?_⟩
          · intro k hk; dsimp only; rw [nb j hj]; exact p1 k hk
          · intro k hk; dsimp only; rw [nb j hj, nb k (by omega)]; exact p2 k hk
          · intro x hx
            dsimp only at hx
            rw [nb j hj] at hx
            rcases p3 x hx with q | ⟨k, hk, e⟩
            · exact Or.inl q
            · exact Or.inr ⟨k, hk, by show (if k = i then b else bno k) = x; rw [nb k (by omega)]; exact e⟩
        · show (∀ j, j < n → ord j ≠ if i = i then b else bno i) ∧ (∀ j, j < i → (if j = i then b else bno j) ≠ if i = i then b else bno i) ∧ ∀ x, x < (if i = i then b else bno i) → _
          rw [if_pos rfl]
          refine ⟨fun j hj e => ?_, fun j hj e => ?_, fun x hx => ?_⟩
          · have := (h3 b hb).mpr (Or.inl ⟨j, hj, e⟩); rw [fb] at this; exact absurd this (by decide)
          · rw [nb j hj] at e
            have := (h3 b hb).mpr (Or.inr ⟨j, hj, e⟩); rw [fb] at this; exact absurd this (by decide)
          · rcases (h3 x (by omega)).mp (lowb x hx) with q | ⟨k, hk, e⟩
            · exact Or.inl q
            · exact Or.inr ⟨k, hk, by show (if k = i then b else bno k) = x; rw [nb k hk]; exact e⟩
      · intro x hx
        rw [b_or, zb_1b hb hx, Bool.or_eq_true, h3 x hx, decide_eq_true_eq]
        constructor
        · rintro ((q | ⟨k, hk, e⟩) | e)
          · exact Or.inl q
          · exact Or.inr ⟨k, by omega, by show (if k = i then b else bno k) = x; rw [nb k hk]; exact e⟩
          · exact Or.inr ⟨i, by omega, by show (if i = i then b else bno i) = x; rw [if_pos rfl]; exact e.symm⟩
        · rintro (q | ⟨k, hk, e⟩)
          · exact Or.inl (Or.inl q)
          · by_cases z : k = i
            · subst z
              refine Or.inr ?_
              rw [← e]; exact if_pos rfl
            · refine Or.inl (Or.inr ⟨k, by omega, ?_⟩)
              rw [← e]; exact (nb k (by omega)).symm
  unfold wpX_numberBlock
  refine ⟨m + 1, key m 0 (fun _ => 0) _ _ (by omega) lt_0 (fun i hi => absurd hi (Nat.not_lt_zero i)) fun x hx => ?_⟩
  rw [U x hx]
  exact ⟨Or.inl, fun q => q.resolve_right (fun ⟨j, hj, _⟩ => absurd hj (Nat.not_lt_zero j))⟩
end
end
section
section
variable {xL xD xI xB xn xu xbl xfl xfo xfh xpl xpo xrm xrc : Int32} {xord xrk xpar xlab xlev xsz xlm xvm xbn xbb xbv xbs xlin xgl xgv xgs xgst xpc xpn xpm xoa xsat : Nat → Int32}
/-! ===== grow, openGap, closeGap ===== -/
theorem zx_grow {post : SX → Prop} {L D B n : Nat} {ord lev lab sz pr : Nat → Nat} (T : zr_T L D B n ord lev lab sz pr) (P : zr_P (· < n) ord pr xpar) (W : zr_c (· < n) ord lev xlev) {p : Nat} (hp : p < n) (dl : Int32)
    (h : ∀ s : Nat → Int32, (∀ i, i < n → zt_as lev i p → s (ord i) = xsz (ord i) + dl) → (∀ i, i < n → ¬ zt_as lev i p → s (ord i) = xsz (ord i)) → post (xL, xD, xI, xB, xn, xu, xbl, xfl, xfo, xfh, xpl, xpo, xrm, xrc, xord, xrk, xpar, xlab, xlev, s, xlm, xvm, xbn, xbb, xbv, xbs, xlin, xgl, xgv, xgs, xgst, xpc, xpn, xpm, xoa, xsat)) : wpX_grow post (xL, xD, xI, xB, xn, xu, xbl, xfl, xfo, xfh, xpl, xpo, xrm, xrc, xord, xrk, xpar, xlab, xlev, xsz, xlm, xvm, xbn, xbb, xbv, xbs, xlin, xgl, xgv, xgs, xgst, xpc, xpn, xpm, xoa, xsat) (nI (ord p)) dl := by
  have hb := T.2.1
  have key : ∀ d c (s : Nat → Int32), lev c = d → c < n → zt_as lev c p → (∀ i, i < n → zt_as lev i p → d < lev i → s (ord i) = xsz (ord i) + dl) → (∀ i, i < n → (zt_as lev i p → lev i ≤ d) → s (ord i) = xsz (ord i)) →
      wX_grow_10 post dl xL xD xI xB xn xu xbl xfl xfo xfh xpl xpo xrm xrc (d + 2) (nI (ord c)) (nI d) xord xrk xpar xlab xlev s xlm xvm xbn xbb xbv xbs xlin xgl xgv xgs xgst xpc xpn xpm xoa xsat := by
    intro d
    induction d with
    | zero =>
      intro c s hc hcn ha h1 h2
      have hc0 : c = 0 := zt_lev0 T.1 hcn hc
      have a := T.2.2.2.1 c hcn
      have cc : (nI (ord c)).toNatClampNeg = ord c := nI_clamp (by omega)
      have v : vp_in (nI (ord c)) 32 := vp_in_nI (by omega) (by omega)
      refine br_f (nI_pos (by omega)) ⟨v, v, nm_e (br_t (nI_le (a := 0) (b := 0) (by omega) (by omega)) (nm_e (br_t (by decide) (h _ ?_ ?_))))⟩
      · intro i hi hs
        rw [cc]
        by_cases z : i = c
        · subst z; rw [pk_us, h2 i hi (fun _ => by omega)]
        · rw [pk_un (fun e => z (T.2.2.2.2 i c hi hcn e))]
          refine h1 i hi hs ?_
          have := zt_lev1 T.1 (show 0 < i by omega) hi
          omega
      · intro i hi hs
        rw [cc]
        by_cases z : i = c
        · subst z; exact absurd ha hs
        · rw [pk_un (fun e => z (T.2.2.2.2 i c hi hcn e))]
          exact h2 i hi (fun q => absurd q hs)
    | succ d ih =>
      intro c s hc hcn ha h1 h2
      have c0 : 0 < c := by
        rcases Nat.eq_zero_or_pos c with z | z
        · rw [z, T.1.2.1] at hc; omega
        · exact z
      have a := T.2.2.2.1 c hcn
      have Pc := T.1.2.2.1 c c0 hcn
      have hpc := Pc.1
      have cc : (nI (ord c)).toNatClampNeg = ord c := nI_clamp (by omega)
      have v : vp_in (nI (ord c)) 32 := vp_in_nI (by omega) (by omega)
      have hap : zt_as lev (pr c) p := zt_as_tr ((zt_asP Pc).mpr (Or.inr (zt_as_re _ _))) ha
      refine br_f (nI_pos (by omega)) ⟨v, v, nm_e (br_f (nI_nle (by omega) (by omega)) ⟨v, nm_r (e' := nI (ord (pr c))) (by rw [cc, P c hcn, if_neg (by omega)]) (nm_r (pk_m1 d) (ih (pr c) _ (by have := Pc.2.1; omega) (by omega) hap ?_ ?_))⟩)⟩
      · intro i hi hs hl
        rw [cc]
        by_cases z : i = c
        · subst z; rw [pk_us, h2 i hi (fun _ => by omega)]
        · rw [pk_un (fun e => z (T.2.2.2.2 i c hi hcn e))]
          refine h1 i hi hs ?_
          rcases Nat.lt_or_ge (d + 1) (lev i) with y | y
          · exact y
          · exfalso
            have e : lev i = lev c := by omega
            rcases Nat.lt_or_ge i c with w | w
            · have := hs.2 c w ha.1; omega
            · have := ha.2 i (by omega) hs.1; omega
      · intro i hi hs
        rw [cc]
        by_cases z : i = c
        · subst z; have := hs ha; omega
        · rw [pk_un (fun e => z (T.2.2.2.2 i c hi hcn e))]
          exact h2 i hi (fun q => by have := hs q; omega)
  have a := T.2.2.2.1 p hp
  have cc : (nI (ord p)).toNatClampNeg = ord p := nI_clamp (by omega)
  unfold wpX_grow
  refine ⟨vp_in_nI (by omega) (by omega), nm_r (e' := nI (lev p)) (by rw [cc]; exact W p hp) ⟨lev p + 2, key (lev p) p _ rfl hp (zt_as_re _ _) (fun i hi hs hl => ?_) (fun i hi hs => rfl)⟩⟩
  have := zt_as_lev hs
  omega
theorem zx_openGap {post : SX → Prop} {n a m : Nat} {ord : Nat → Nat} (O : zr_O (· < n) ord xord xrk) (hj : ∀ i j, i < n → j < n → ord i = ord j → i = j) (ho : ∀ i, i < n → ord i < 32) (ha : 0 < a) (han : a ≤ n) (hm : 0 < m) (hnm : n + m ≤ 32)
    (h : ∀ A R LM VM, (∀ i, i < a → A i = nI (ord i) ∧ R (ord i) = nI i) → (∀ i, a ≤ i → i < n → A (i + m) = nI (ord i) ∧ R (ord i) = nI (i + m)) → (∀ l, l < 6 → LM l = zb_og a m (xlm l)) → (∀ l, l < 10 → VM l = zb_og a m (xvm l)) →
      post (xL, xD, xI, xB, nI (n + m), xu, xbl, xfl, xfo, xfh, xpl, xpo, xrm, xrc, A, R, xpar, xlab, xlev, xsz, LM, VM, xbn, xbb, xbv, xbs, xlin, xgl, xgv, xgs, xgst, xpc, xpn, xpm, xoa, xsat)) : wpX_openGap post (xL, xD, xI, xB, nI n, xu, xbl, xfl, xfo, xfh, xpl, xpo, xrm, xrc, xord, xrk, xpar, xlab, xlev, xsz, xlm, xvm, xbn, xbb, xbv, xbs, xlin, xgl, xgv, xgs, xgst, xpc, xpn, xpm, xoa, xsat) (nI a) (nI m) := by
  have k3 : ∀ A R LM, (∀ i, i < a → A i = nI (ord i) ∧ R (ord i) = nI i) → (∀ i, a ≤ i → i < n → A (i + m) = nI (ord i) ∧ R (ord i) = nI (i + m)) → (∀ l, l < 6 → LM l = zb_og a m (xlm l)) →
      ∀ d i (VM : Nat → Int32), i + d = 10 → (∀ l, l < i → VM l = zb_og a m (xvm l)) → (∀ l, i ≤ l → VM l = xvm l) → wX_openGap_110 post (nI m) (zb_lo a) xL xD xI xB (nI (n + m)) xu xbl xfl xfo xfh xpl xpo xrm xrc (d + 1) (nI i) A R xpar xlab xlev xsz LM VM xbn xbb xbv xbs xlin xgl xgv xgs xgst xpc xpn xpm xoa xsat := by
    intro A R LM g1 g2 g3 d
    induction d with
    | zero =>
      intro i VM hi v1 v2
      have e : i = 10 := by omega
      subst e
      exact br_t (nI_le (a := 10) (by omega) (by omega)) (h A R LM VM g1 g2 g3 v1)
    | succ d ih =>
      intro i VM hi v1 v2
      have c : (nI i).toNatClampNeg = i := nI_clamp (by omega)
      have v : vp_in (nI i) 10 := vp_in_nI (by omega) (by omega)
      refine br_f (nI_ge (b := 10) (by omega) (by omega)) ⟨v, nm_r (e' := xvm i) (by rw [c]; exact v2 i (by omega)) ⟨v, nm_e (nm_r (nI_1 i) (ih (i + 1) _ (by omega) ?_ ?_))⟩⟩
      · rw [c]
        refine lt_s (fun l hl => ?_) ?_
        · rw [pk_un (by omega)]; exact v1 l hl
        · rw [pk_us]; rfl
      · intro l hl; rw [c, pk_un (by omega)]; exact v2 l (by omega)
  have k2 : ∀ A R, (∀ i, i < a → A i = nI (ord i) ∧ R (ord i) = nI i) → (∀ i, a ≤ i → i < n → A (i + m) = nI (ord i) ∧ R (ord i) = nI (i + m)) →
      ∀ d i (LM : Nat → Int32), i + d = 6 → (∀ l, l < i → LM l = zb_og a m (xlm l)) → (∀ l, i ≤ l → LM l = xlm l) → wX_openGap_65 post (nI m) (zb_lo a) xL xD xI xB (nI (n + m)) xu xbl xfl xfo xfh xpl xpo xrm xrc (d + 1) (nI i) A R xpar xlab xlev xsz LM xvm xbn xbb xbv xbs xlin xgl xgv xgs xgst xpc xpn xpm xoa xsat := by
    intro A R g1 g2 d
    induction d with
    | zero =>
      intro i LM hi v1 v2
      have e : i = 6 := by omega
      subst e
      exact br_t (nI_le (a := 6) (by omega) (by omega)) ⟨11, k3 A R LM g1 g2 v1 10 0 _ (by omega) lt_0 (fun l _ => rfl)⟩
    | succ d ih =>
      intro i LM hi v1 v2
      have c : (nI i).toNatClampNeg = i := nI_clamp (by omega)
      have v : vp_in (nI i) 6 := vp_in_nI (by omega) (by omega)
      refine br_f (nI_ge (b := 6) (by omega) (by omega)) ⟨v, nm_r (e' := xlm i) (by rw [c]; exact v2 i (by omega)) ⟨v, nm_e (nm_r (nI_1 i) (ih (i + 1) _ (by omega) ?_ ?_))⟩⟩
      · rw [c]
        refine lt_s (fun l hl => ?_) ?_
        · rw [pk_un (by omega)]; exact v1 l hl
        · rw [pk_us]; rfl
      · intro l hl; rw [c, pk_un (by omega)]; exact v2 l (by omega)
  have k1 : ∀ d (A R : Nat → Int32), a + d ≤ n → (∀ i, i < a + d → A i = nI (ord i) ∧ R (ord i) = nI i) → (∀ i, a + d ≤ i → i < n → A (i + m) = nI (ord i) ∧ R (ord i) = nI (i + m)) →
      wX_openGap_7 post (nI a) (nI m) xL xD xI xB (nI n) xu xbl xfl xfo xfh xpl xpo xrm xrc (d + 1) (nI (a + d - 1)) A R xpar xlab xlev xsz xlm xvm xbn xbb xbv xbs xlin xgl xgv xgs xgst xpc xpn xpm xoa xsat := by
    intro d
    induction d with
    | zero =>
      intro A R hd g1 g2
      exact br_t (nI_lt (by omega) (by omega)) (nm_r (nI_add n m) (zx_lowBits (by omega) ⟨7, k2 A R g1 g2 6 0 _ (by omega) lt_0 (fun l _ => rfl)⟩))
    | succ d ih =>
      intro A R hd g1 g2
      obtain ⟨j, hj'⟩ : ∃ j, j = a + d := ⟨_, rfl⟩
      have e1 : a + (d + 1) - 1 = j := by omega
      rw [e1]
      have hjn : j < n := by omega
      have oj := ho j hjn
      have cj : (nI j).toNatClampNeg = j := nI_clamp (by omega)
      have cjm : (nI j + nI m).toNatClampNeg = j + m := by rw [nI_add]; exact nI_clamp (by omega)
      have co : (nI (ord j)).toNatClampNeg = ord j := nI_clamp (by omega)
      refine br_f (nI_nlt (by omega) (by omega)) ⟨vp_in_nI (by omega) (by omega), nm_r (e' := nI (ord j)) (by rw [cj]; exact (g1 j (by omega)).1) ⟨by rw [nI_add]; exact vp_in_nI (by omega) (by omega), nm_e ⟨vp_in_nI (by omega) (by omega), nm_e (nm_r (e' := nI (a + d - 1)) (by rw [show j = (a + d - 1) + 1 by omega]; exact pk_m1 _) (ih _ _ (by omega) ?_ ?_))⟩⟩⟩
      · intro i hi
        rw [cjm, co, pk_un (by omega), pk_un (fun e => by have := hj i j (by omega) hjn e; omega)]
        exact g1 i (by omega)
      · intro i hi hin
        rw [cjm, co]
        by_cases z : i = j
        · subst z; rw [pk_us, pk_us, nI_add]; exact ⟨rfl, rfl⟩
        · rw [pk_un (by omega), pk_un (fun e => z (hj i j hin hjn e))]
          exact g2 i (by omega) hin
  unfold wpX_openGap
  refine nm_r (e' := nI (a + (n - a) - 1)) ((congrArg (fun z => nI z - 1) (show n = (a + (n - a) - 1) + 1 by omega)).trans (nI_pred _)) ⟨n - a + 1, k1 (n - a) _ _ (by omega) (fun i hi => O i (by omega)) (fun i hi hin => by omega)⟩
theorem zx_closeGap {post : SX → Prop} {n r m : Nat} {ord : Nat → Nat} (O : zr_O (· < n) ord xord xrk) (hj : ∀ i j, i < n → j < n → ord i = ord j → i = j) (ho : ∀ i, i < n → ord i < 32) (hm : 0 < m) (hrm : r + m ≤ n) (hn : n ≤ 32) (hm32 : m < 32)
    (h : ∀ A R LM VM, (∀ i, i < r → A i = nI (ord i) ∧ R (ord i) = nI i) → (∀ i, r ≤ i → i < n - m → A i = nI (ord (i + m)) ∧ R (ord (i + m)) = nI i) → (∀ l, l < 6 → LM l = zb_cg r m (xlm l)) → (∀ l, l < 10 → VM l = zb_cg r m (xvm l)) →
      post (xL, xD, xI, xB, nI (n - m), xu, xbl, xfl, xfo, xfh, xpl, xpo, xrm, xrc, A, R, xpar, xlab, xlev, xsz, LM, VM, xbn, xbb, xbv, xbs, xlin, xgl, xgv, xgs, xgst, xpc, xpn, xpm, xoa, xsat)) : wpX_closeGap post (xL, xD, xI, xB, nI n, xu, xbl, xfl, xfo, xfh, xpl, xpo, xrm, xrc, xord, xrk, xpar, xlab, xlev, xsz, xlm, xvm, xbn, xbb, xbv, xbs, xlin, xgl, xgv, xgs, xgst, xpc, xpn, xpm, xoa, xsat) (nI r) (nI m) := by
  have k3 : ∀ A R LM, (∀ i, i < r → A i = nI (ord i) ∧ R (ord i) = nI i) → (∀ i, r ≤ i → i < n - m → A i = nI (ord (i + m)) ∧ R (ord (i + m)) = nI i) → (∀ l, l < 6 → LM l = zb_cg r m (xlm l)) →
      ∀ d i (VM : Nat → Int32), i + d = 10 → (∀ l, l < i → VM l = zb_cg r m (xvm l)) → (∀ l, i ≤ l → VM l = xvm l) → wX_closeGap_110 post (nI m) (zb_lo r) xL xD xI xB (nI (n - m)) xu xbl xfl xfo xfh xpl xpo xrm xrc (d + 1) (nI i) A R xpar xlab xlev xsz LM VM xbn xbb xbv xbs xlin xgl xgv xgs xgst xpc xpn xpm xoa xsat := by
    intro A R LM g1 g2 g3 d
    induction d with
    | zero =>
      intro i VM hi v1 v2
      have e : i = 10 := by omega
      subst e
      exact br_t (nI_le (a := 10) (by omega) (by omega)) (h A R LM VM g1 g2 g3 v1)
    | succ d ih =>
      intro i VM hi v1 v2
      have c : (nI i).toNatClampNeg = i := nI_clamp (by omega)
      have v : vp_in (nI i) 10 := vp_in_nI (by omega) (by omega)
      refine br_f (nI_ge (b := 10) (by omega) (by omega)) ⟨v, nm_r (e' := xvm i) (by rw [c]; exact v2 i (by omega)) ⟨v, nm_e (nm_r (nI_1 i) (ih (i + 1) _ (by omega) ?_ ?_))⟩⟩
      · rw [c]
        refine lt_s (fun l hl => ?_) ?_
        · rw [pk_un (by omega)]; exact v1 l hl
        · rw [pk_us]; rfl
      · intro l hl; rw [c, pk_un (by omega)]; exact v2 l (by omega)
  have k2 : ∀ A R, (∀ i, i < r → A i = nI (ord i) ∧ R (ord i) = nI i) → (∀ i, r ≤ i → i < n - m → A i = nI (ord (i + m)) ∧ R (ord (i + m)) = nI i) →
      ∀ d i (LM : Nat → Int32), i + d = 6 → (∀ l, l < i → LM l = zb_cg r m (xlm l)) → (∀ l, i ≤ l → LM l = xlm l) → wX_closeGap_65 post (nI m) (zb_lo r) xL xD xI xB (nI (n - m)) xu xbl xfl xfo xfh xpl xpo xrm xrc (d + 1) (nI i) A R xpar xlab xlev xsz LM xvm xbn xbb xbv xbs xlin xgl xgv xgs xgst xpc xpn xpm xoa xsat := by
    intro A R g1 g2 d
    induction d with
    | zero =>
      intro i LM hi v1 v2
      have e : i = 6 := by omega
      subst e
      exact br_t (nI_le (a := 6) (by omega) (by omega)) ⟨11, k3 A R LM g1 g2 v1 10 0 _ (by omega) lt_0 (fun l _ => rfl)⟩
    | succ d ih =>
      intro i LM hi v1 v2
      have c : (nI i).toNatClampNeg = i := nI_clamp (by omega)
      have v : vp_in (nI i) 6 := vp_in_nI (by omega) (by omega)
      refine br_f (nI_ge (b := 6) (by omega) (by omega)) ⟨v, nm_r (e' := xlm i) (by rw [c]; exact v2 i (by omega)) ⟨v, nm_e (nm_r (nI_1 i) (ih (i + 1) _ (by omega) ?_ ?_))⟩⟩
      · rw [c]
        refine lt_s (fun l hl => ?_) ?_
        · rw [pk_un (by omega)]; exact v1 l hl
        · rw [pk_us]; rfl
      · intro l hl; rw [c, pk_un (by omega)]; exact v2 l (by omega)
  have k1 : ∀ d j (A R : Nat → Int32), j + d = n - m → r ≤ j → (∀ i, i < r → A i = nI (ord i) ∧ R (ord i) = nI i) → (∀ i, r ≤ i → i < j → A i = nI (ord (i + m)) ∧ R (ord (i + m)) = nI i) → (∀ i, j ≤ i → i < n - m → A (i + m) = nI (ord (i + m))) →
      wX_closeGap_4 post (nI r) (nI m) xL xD xI xB (nI n) xu xbl xfl xfo xfh xpl xpo xrm xrc (d + 1) (nI (j + m)) A R xpar xlab xlev xsz xlm xvm xbn xbb xbv xbs xlin xgl xgv xgs xgst xpc xpn xpm xoa xsat := by
    intro d
    induction d with
    | zero =>
      intro j A R hd hrj g1 g2 g3
      have e : j = n - m := by omega
      subst e
      exact br_t (nI_le (by omega) (by omega)) (nm_r (pk_sub (by omega)) (zx_lowBits (by omega) ⟨7, k2 A R g1 g2 6 0 _ (by omega) lt_0 (fun l _ => rfl)⟩))
    | succ d ih =>
      intro j A R hd hrj g1 g2 g3
      have hjn : j + m < n := by omega
      have oj := ho (j + m) hjn
      have cj : (nI (j + m)).toNatClampNeg = j + m := nI_clamp (by omega)
      have ej : nI (j + m) - nI m = nI j := by rw [pk_sub (by omega), Nat.add_sub_cancel]
      have cjm : (nI (j + m) - nI m).toNatClampNeg = j := by rw [ej]; exact nI_clamp (by omega)
      have co : (nI (ord (j + m))).toNatClampNeg = ord (j + m) := nI_clamp (by omega)
      refine br_f (nI_ge (by omega) (by omega)) ⟨vp_in_nI (by omega) (by omega), nm_r (e' := nI (ord (j + m))) (by rw [cj]; exact g3 j (by omega) (by omega)) ⟨by rw [ej]; exact vp_in_nI (by omega) (by omega), nm_e ⟨vp_in_nI (by omega) (by omega), nm_e (nm_r (e' := nI (j + 1 + m)) (by rw [nI_1]; exact congrArg nI (by omega)) (ih (j + 1) _ _ (by omega) (by omega) ?_ ?_ ?_))⟩⟩⟩
      · intro i hi
        rw [cjm, co, pk_un (by omega), pk_un (fun e => by have := hj i (j + m) (by omega) hjn e; omega)]
        exact g1 i hi
      · intro i hi hin
        rw [cjm, co, ej]
        by_cases z : i = j
        · subst z; rw [pk_us, pk_us]; exact ⟨rfl, rfl⟩
        · rw [pk_un z, pk_un (fun e => z (by have := hj (i + m) (j + m) (by omega) hjn e; omega))]
          exact g2 i hi (by omega)
      · intro i hi hin
        rw [cjm, pk_un (by omega)]
        exact g3 i (by omega) hin
  unfold wpX_closeGap
  refine nm_r (nI_add r m) ⟨n - m - r + 1, k1 (n - m - r) r _ _ (by omega) (Nat.le_refl _) (fun i hi => O i (by omega)) (fun i hi hin => by omega) (fun i hi hin => (O (i + m) (by omega)).1)⟩
end
end
section
/-! ===== X: paste, cutOut ===== -/
/-- ranks that are already in order while k nodes of the block are in -/
def zr_D (n m a k : Nat) (i : Nat) : Prop := i < a + k ∨ (a + m ≤ i ∧ i < n + m)
section
variable {xL xD xI xB xn xu xbl xfl xfo xfh xpl xpo xrm xrc : Int32} {xord xrk xpar xlab xlev xsz xlm xvm xbn xbb xbv xbs xlin xgl xgv xgs xgst xpc xpn xpm xoa xsat : Nat → Int32}
theorem zx_p121 {post : SX → Prop} {J : Int32 → (Nat → Int32) → (Nat → Int32) → (Nat → Int32) → (Nat → Int32) → (Nat → Int32) → (Nat → Int32) → (Nat → Int32) → (Nat → Int32) → (Nat → Int32) → (Nat → Int32) → (Nat → Int32) → (Nat → Int32) → (Nat → Int32) → (Nat → Int32) → (Nat → Int32) → (Nat → Int32) → (Nat → Int32) → (Nat → Int32) → (Nat → Int32) → (Nat → Int32) → (Nat → Int32) → (Nat → Int32) → Prop}
    {x3 x5 z0 : Int32} {tp k no v rk lb : Nat} (hk : k < 32) (hno : no < 32) (hv : v < 9) (htv : tp + v < 10) (hlb : lb < 6) (eb : xbb k = nI lb)
    (h : J (nI (k + 1)) xord xrk (upd xpar no z0) (upd xlab no (nI lb)) (upd xlev no (nI (tp + v))) (upd xsz no (xbs k)) (upd xlm lb (xlm lb ||| zb_1 rk)) (upd xvm (tp + v) (xvm (tp + v) ||| zb_1 rk)) xbn xbb xbv xbs (upd xlin v (nI no)) xgl xgv xgs xgst xpc xpn xpm xoa xsat) :
    wX_paste_121 post J x3 (nI tp) x5 (nI k) (nI no) (nI v) (nI rk) z0 (nI no) xL xD xI xB xn xu xbl xfl xfo xfh xpl xpo xrm xrc xord xrk xpar xlab xlev xsz xlm xvm xbn xbb xbv xbs xlin xgl xgv xgs xgst xpc xpn xpm xoa xsat := by
  have ck : (nI k).toNatClampNeg = k := nI_clamp (by omega)
  have cn : (nI no).toNatClampNeg = no := nI_clamp (by omega)
  have cv : (nI v).toNatClampNeg = v := nI_clamp (by omega)
  have cl : (nI lb).toNatClampNeg = lb := nI_clamp (by omega)
  have ct : (nI (tp + v)).toNatClampNeg = tp + v := nI_clamp (by omega)
  have vk : vp_in (nI k) 32 := vp_in_nI hk (by omega)
  have vn : vp_in (nI no) 32 := vp_in_nI hno (by omega)
  have vv : vp_in (nI v) 9 := vp_in_nI hv (by omega)
  have vl : vp_in (nI lb) 6 := vp_in_nI hlb (by omega)
  have vt : vp_in (nI (tp + v)) 10 := vp_in_nI htv (by omega)
  unfold wX_paste_121
  rw [ck, cn, cv, eb, cl, nI_add, ct]
  exact ⟨vn, nm_e ⟨vv, nm_e ⟨vk, vn, nm_e ⟨vn, nm_e ⟨vk, vn, nm_e ⟨vk, vl, vl, nm_e ⟨vt, vt, nm_e (nm_r (nI_1 k) h)⟩⟩⟩⟩⟩⟩⟩
section
variable {L D B n m a p : Nat} {ord lev lab sz pr bno blab bv bs bp : Nat → Nat}
/-- the paste loop, then grow -/
theorem zx_paste45 {post : SX → Prop}
    (T' : zr_T L D B (n + m) (zt_in a m ord bno) (zt_in a m lev (fun i => lev p + 1 + bv i)) (zt_in a m lab blab) (zt_in a m (zt_isz p m sz) bs) (zt_ipr a m p pr bv bp))
    (T : zr_T L D B n ord lev lab sz pr) (Pl : zt_pl n lev sz p a) (K : zt_bk m bv bs bp) (Bk : zr_B m bno blab bv bs xbn xbb xbv xbs)
    (h : ∀ A R Pa La Le Sz LM VM Ln, zr_X (n + m) (zt_in a m ord bno) (zt_in a m lev (fun i => lev p + 1 + bv i)) (zt_in a m lab blab) (zt_in a m (zt_isz p m sz) bs) (zt_ipr a m p pr bv bp) A R Pa La Le Sz LM VM →
      post (xL, xD, xI, xB, nI (n + m), xu, nI m, xfl, xfo, xfh, xpl, xpo, xrm, xrc, A, R, Pa, La, Le, Sz, LM, VM, xbn, xbb, xbv, xbs, Ln, xgl, xgv, xgs, xgst, xpc, xpn, xpm, xoa, xsat)) :
    ∀ d k (A R Pa La Le Sz LM VM Ln : Nat → Int32), k + d = m →
      zr_O (zr_D n m a k) (zt_in a m ord bno) A R → zr_P (zr_D n m a k) (zt_in a m ord bno) (zt_ipr a m p pr bv bp) Pa → zr_c (zr_D n m a k) (zt_in a m ord bno) (zt_in a m lab blab) La →
      zr_c (zr_D n m a k) (zt_in a m ord bno) (zt_in a m lev (fun i => lev p + 1 + bv i)) Le → zr_c (zr_D n m a k) (zt_in a m ord bno) (zt_in a m sz bs) Sz →
      zr_M (zr_D n m a k) (zt_in a m lab blab) 6 LM → zr_M (zr_D n m a k) (zt_in a m lev (fun i => lev p + 1 + bv i)) 10 VM →
      (∀ j, j < k → (∀ i, j < i → i < k → bv i ≠ bv j) → Ln (bv j) = nI (bno j)) →
      wX_paste_45 post (nI (ord p)) (nI (lev p + 1)) (nI a) xL xD xI xB (nI (n + m)) xu (nI m) xfl xfo xfh xpl xpo xrm xrc (d + 1) (nI k) A R Pa La Le Sz LM VM xbn xbb xbv xbs Ln xgl xgv xgs xgst xpc xpn xpm xoa xsat := by
  have hb := T'.2.1
  have hpa := Pl.2.1
  have han : a ≤ n := by have := (T.1.2.2.2 p Pl.1).1; have := Pl.2.2.1; omega
  obtain ⟨od, hod⟩ : ∃ f, f = zt_in a m ord bno := ⟨_, rfl⟩
  obtain ⟨lv, hlv⟩ : ∃ f, f = zt_in a m lev (fun i => lev p + 1 + bv i) := ⟨_, rfl⟩
  obtain ⟨lb, hlb⟩ : ∃ f, f = zt_in a m lab blab := ⟨_, rfl⟩
  obtain ⟨s0, hs0⟩ : ∃ f, f = zt_in a m sz bs := ⟨_, rfl⟩
  obtain ⟨pq, hpq⟩ : ∃ f, f = zt_ipr a m p pr bv bp := ⟨_, rfl⟩
  rw [← hod, ← hlv, ← hlb, ← hpq] at T' h
  rw [← hod, ← hlv, ← hlb, ← hs0, ← hpq]
  have odp : od p = ord p := by rw [hod]; exact zt_in1 hpa
  intro d
  induction d with
  | zero =>
    intro k A R Pa La Le Sz LM VM Ln hk gO gP gLa gLe gSz gLM gVM gLn
    have e : k = m := by omega
    subst e
    have all : ∀ i, i < n + k → zr_D n k a k i := fun i hi => by unfold zr_D; omega
    refine br_t (nI_le (Nat.le_refl _) (by omega)) ?_
    rw [← odp]
    refine zx_grow T' (fun i hi => gP i (all i hi)) (fun i hi => gLe i (all i hi)) (by omega) (nI k) fun s s1 s2 => ?_
    refine h A R Pa La Le s LM VM Ln ⟨fun i hi => gO i (all i hi), fun i hi => gP i (all i hi), fun i hi => gLa i (all i hi), fun i hi => gLe i (all i hi), ?_, ?_, ?_⟩
    · refine zt_c3 a (fun i hi => ?_) (fun i hi => ?_) (fun i hi hin => ?_)
      · have hin : i < n := by omega
        have l1 : ∀ j, j < a → lv j = lev j := fun j hj => by rw [hlv]; exact zt_in1 hj
        have eq : zt_as lv i p ↔ i ≤ p ∧ p ≤ i + sz i := by
          rw [← zt_asS (T.1.2.2.2 i hin) Pl.1]
          constructor
          · rintro ⟨q1, q2⟩
            exact ⟨q1, fun j j1 j2 => by have := q2 j j1 j2; rw [l1 i hi, l1 j (by omega)] at this; exact this⟩
          · rintro ⟨q1, q2⟩
            exact ⟨q1, fun j j1 j2 => by rw [l1 i hi, l1 j (by omega)]; exact q2 j j1 j2⟩
        have e0 : s0 i = sz i := by rw [hs0]; exact zt_in1 hi
        rw [zt_in1 hi]
        unfold zt_isz
        by_cases q : i ≤ p ∧ p ≤ i + sz i
        · rw [s1 i (by omega) (eq.mpr q), gSz i (all i (by omega)), e0, if_pos q, nI_add]
        · rw [s2 i (by omega) (fun z => q (eq.mp z)), gSz i (all i (by omega)), e0, if_neg q]
      · rw [zt_in2 hi, s2 _ (by omega) (fun z => by have := z.1; omega), gSz _ (all _ (by omega)), hs0, zt_in2 hi]
      · have : zt_isz p k sz i = sz i := by unfold zt_isz; exact if_neg (by omega)
        rw [zt_in3 hi, s2 _ (by omega) (fun z => by have := z.1; omega), gSz _ (all _ (by omega)), hs0, zt_in3 hi, this]
    · intro l hl b hb
      rw [gLM l hl b hb]
      constructor
      · rintro ⟨q, e⟩; exact ⟨by unfold zr_D at q; omega, e⟩
      · rintro ⟨q, e⟩; exact ⟨all b q, e⟩
    · intro l hl b hb
      rw [gVM l hl b hb]
      constructor
      · rintro ⟨q, e⟩; exact ⟨by unfold zr_D at q; omega, e⟩
      · rintro ⟨q, e⟩; exact ⟨all b q, e⟩
  | succ d ih =>
    intro k A R Pa La Le Sz LM VM Ln hk gO gP gLa gLe gSz gLM gVM gLn
    have hkm : k < m := by omega
    obtain ⟨b1, b2, b3, b4⟩ := Bk k hkm
    have ord_k : od (a + k) = bno k := by rw [hod]; exact zt_in2 hkm
    have lb_k : lb (a + k) = blab k := by rw [hlb]; exact zt_in2 hkm
    have lv_k : lv (a + k) = lev p + 1 + bv k := by rw [hlv]; exact zt_in2 hkm
    have s_k : s0 (a + k) = bs k := by rw [hs0]; exact zt_in2 hkm
    have pr_k : pq (a + k) = if bv k = 0 then p else a + bp k := by
      rw [hpq]; unfold zt_ipr; rw [if_neg (by omega), if_pos (by omega), Nat.add_sub_cancel_left]
    have tk := T'.2.2.2.1 (a + k) (by omega)
    rw [ord_k, lb_k, lv_k] at tk
    have ck : (nI k).toNatClampNeg = k := nI_clamp (by omega)
    have cak : (nI a + nI k).toNatClampNeg = a + k := by rw [nI_add]; exact nI_clamp (by omega)
    have cno : (nI (bno k)).toNatClampNeg = bno k := nI_clamp (by omega)
    have vk : vp_in (nI k) 32 := vp_in_nI (by omega) (by omega)
    have vn : vp_in (nI (bno k)) 32 := vp_in_nI (by omega) (by omega)
    have vak : vp_in (nI (a + k)) 32 := vp_in_nI (by omega) (by omega)
    have hs : ∀ i, zr_D n m a (k + 1) i → i = a + k ∨ zr_D n m a k i := fun i hi => by unfold zr_D at *; omega
    have hs' : ∀ i, zr_D n m a (k + 1) i ↔ i = a + k ∨ zr_D n m a k i := fun i => by unfold zr_D; omega
    have hj : ∀ i, zr_D n m a k i → od i = od (a + k) → i = a + k := fun i hi e => T'.2.2.2.2 i (a + k) (by unfold zr_D at hi; omega) (by omega) e
    have cak' : (nI (a + k)).toNatClampNeg = a + k := nI_clamp (by omega)
    -- what is stored as the parent
    have go : ∀ z0 : Int32, (z0 = if a + k = 0 then -1 else nI (od (pq (a + k)))) → wX_paste_121 post (wX_paste_45 post (nI (ord p)) (nI (lev p + 1)) (nI a) xL xD xI xB (nI (n + m)) xu (nI m) xfl xfo xfh xpl xpo xrm xrc (d + 1)) (nI (ord p)) (nI (lev p + 1)) (nI a) (nI k) (nI (bno k)) (nI (bv k)) (nI (a + k)) z0 (nI (bno k)) xL xD xI xB (nI (n + m)) xu (nI m) xfl xfo xfh xpl xpo xrm xrc (upd A (a + k) (nI (bno k))) (upd R (bno k) (nI (a + k))) Pa La Le Sz LM VM xbn xbb xbv xbs Ln xgl xgv xgs xgst xpc xpn xpm xoa xsat := by
      intro z0 hz
      refine zx_p121 (lb := blab k) (by omega) (by omega) (by omega) (by omega) (by omega) b2 ?_
      rw [b4]
      rw [← lv_k, ← lb_k, ← ord_k]
      refine ih (k + 1) _ _ _ _ _ _ _ _ _ (by omega) (zr_Ou gO hs hj) (zr_Pu gP hs hj hz) (zr_cu gLa hs hj rfl) (zr_cu gLe hs hj rfl) (zr_cu gSz hs hj (by rw [s_k])) (zr_Mu gLM hs' (by omega)) (zr_Mu gVM hs' (by omega)) ?_
      intro j hjk hlast
      by_cases z : j = k
      · subst z; rw [pk_us, ord_k]
      · rw [pk_un (fun e => hlast k (by omega) (by omega) e.symm)]
        exact gLn j (by omega) (fun i i1 i2 => hlast i i1 (by omega))
    refine br_f (nI_ge (by omega) (by omega)) ⟨vk, nm_r (e' := nI (bno k)) (by rw [ck]; exact b1) ⟨vk, nm_r (e' := nI (bv k)) (by rw [ck]; exact b3) (nm_r (nI_add a k) ⟨vak, nm_r (e' := upd A (a + k) (nI (bno k))) (by rw [cak']) ⟨vn, nm_r (e' := upd R (bno k) (nI (a + k))) (by rw [cno]) ?_⟩⟩)⟩⟩
    by_cases c0 : bv k = 0
    · refine br_t (by rw [c0]; rfl) (go _ ?_)
      rw [pr_k, if_pos c0, if_neg (by omega), odp]
    · have hv := tk.2.1
      refine br_f (fun q => c0 ((nI_eq (b := 0) (by omega) (by omega)).mp q)) ?_
      have e1 : nI (bv k) - 1 = nI (bv k - 1) := by rw [show bv k = (bv k - 1) + 1 by omega]; exact nI_pred _
      have c1 : (nI (bv k - 1)).toNatClampNeg = bv k - 1 := nI_clamp (by omega)
      rw [e1]
      refine ⟨vp_in_nI (by omega) (by omega), go _ ?_⟩
      rw [c1, pr_k, if_neg c0, if_neg (by omega)]
      rcases K.2.1 k hkm with q | q
      · exact absurd q c0
      · have q1 := q.1
        have q2 := q.2.1
        have e3 : od (a + bp k) = bno (bp k) := by rw [hod]; exact zt_in2 (by omega)
        rw [e3, show bv k - 1 = bv (bp k) by omega]
        refine gLn (bp k) q1 fun i i1 i2 => ?_
        have := q.2.2 i i1 i2
        omega
theorem zx_paste {post : SX → Prop} {t md : Nat} (ht : t < n) (hmd : md < 4) (h2 : 2 ≤ md → 0 < t) (hp : p = zr_pp pr md t) (ha : a = zr_at sz md t)
    (T' : zr_T L D B (n + m) (zt_in a m ord bno) (zt_in a m lev (fun i => lev p + 1 + bv i)) (zt_in a m lab blab) (zt_in a m (zt_isz p m sz) bs) (zt_ipr a m p pr bv bp))
    (T : zr_T L D B n ord lev lab sz pr) (X : zr_X n ord lev lab sz pr xord xrk xpar xlab xlev xsz xlm xvm) (K : zt_bk m bv bs bp) (Bk : zr_B m bno blab bv bs xbn xbb xbv xbs)
    (h : ∀ A R Pa La Le Sz LM VM Ln, zr_X (n + m) (zt_in a m ord bno) (zt_in a m lev (fun i => lev p + 1 + bv i)) (zt_in a m lab blab) (zt_in a m (zt_isz p m sz) bs) (zt_ipr a m p pr bv bp) A R Pa La Le Sz LM VM →
      post (xL, xD, xI, xB, nI (n + m), xu, nI m, xfl, xfo, xfh, xpl, xpo, xrm, xrc, A, R, Pa, La, Le, Sz, LM, VM, xbn, xbb, xbv, xbs, Ln, xgl, xgv, xgs, xgst, xpc, xpn, xpm, xoa, xsat)) : wpX_paste post (xL, xD, xI, xB, nI n, xu, nI m, xfl, xfo, xfh, xpl, xpo, xrm, xrc, xord, xrk, xpar, xlab, xlev, xsz, xlm, xvm, xbn, xbb, xbv, xbs, xlin, xgl, xgv, xgs, xgst, xpc, xpn, xpm, xoa, xsat) (nI (ord t)) (nI md) := by
  have Pl := zr_place T.1 ht hmd h2
  rw [← hp, ← ha] at Pl
  have hb := T'.2.1
  have a2 := T.2.2.2.1 t ht
  have hpa := Pl.2.1
  have m0 := K.1
  have han : a ≤ n := by have := (T.1.2.2.2 p Pl.1).1; have := Pl.2.2.1; omega
  have main : wX_paste_15 post (nI (ord t)) (nI md) (nI (ord p)) xL xD xI xB (nI n) xu (nI m) xfl xfo xfh xpl xpo xrm xrc xord xrk xpar xlab xlev xsz xlm xvm xbn xbb xbv xbs xlin xgl xgv xgs xgst xpc xpn xpm xoa xsat := by
    unfold wX_paste_15
    refine zx_placeLevel T X.2.2.2.1 ht hmd h2 (zx_placeRank T X.1 X.2.2.2.2.1 ht hmd ?_)
    rw [← hp, ← ha]
    refine zx_openGap X.1 T.2.2.2.2 (fun i hi => by have := (T.2.2.2.1 i hi).1; omega) (by omega) han m0 (by omega) fun A R LM VM g1 g2 g3 g4 => ?_
    have dm : ∀ i, zr_D n m a 0 i → i < a ∨ ∃ j, a ≤ j ∧ j < n ∧ i = j + m := by
      intro i hi
      rcases hi with q | q
      · exact Or.inl (by omega)
      · exact Or.inr ⟨i - m, by omega, by omega, by omega⟩
    refine ⟨m + 1, zx_paste45 T' T Pl K Bk h m 0 A R _ _ _ _ LM VM _ (by omega) ?_ ?_ ?_ ?_ ?_ ?_ ?_ (fun j hj => absurd hj (Nat.not_lt_zero j))⟩
    · intro i hi
      rcases dm i hi with q | ⟨j, q1, q2, rfl⟩
      · rw [zt_in1 q]; exact g1 i q
      · rw [zt_in3 q1]; exact g2 j q1 q2
    · intro i hi
      rcases dm i hi with q | ⟨j, q1, q2, rfl⟩
      · rw [zt_in1 q, show zt_ipr a m p pr bv bp i = pr i from if_pos q, X.2.1 i (by omega)]
        by_cases z : i = 0
        · rw [if_pos z, if_pos z]
        · have := (T.1.2.2.1 i (by omega) (by omega)).1
          rw [if_neg z, if_neg z, zt_in1 (by omega)]
      · have e : zt_ipr a m p pr bv bp (j + m) = if pr j < a then pr j else pr j + m := by
          unfold zt_ipr; rw [if_neg (by omega), if_neg (by omega), Nat.add_sub_cancel]
        have := (T.1.2.2.1 j (by omega) (by omega)).1
        rw [zt_in3 q1, X.2.1 j q2, if_neg (by omega), if_neg (by omega), e]
        by_cases z : pr j < a
        · rw [if_pos z, zt_in1 z]
        · rw [if_neg z, zt_in3 (by omega)]
    · intro i hi
      rcases dm i hi with q | ⟨j, q1, q2, rfl⟩
      · rw [zt_in1 q, zt_in1 q]; exact X.2.2.1 i (by omega)
      · rw [zt_in3 q1, zt_in3 q1]; exact X.2.2.1 j q2
    · intro i hi
      rcases dm i hi with q | ⟨j, q1, q2, rfl⟩
      · rw [zt_in1 q, zt_in1 q]; exact X.2.2.2.1 i (by omega)
      · rw [zt_in3 q1, zt_in3 q1]; exact X.2.2.2.1 j q2
    · intro i hi
      rcases dm i hi with q | ⟨j, q1, q2, rfl⟩
      · rw [zt_in1 q, zt_in1 q]; exact X.2.2.2.2.1 i (by omega)
      · rw [zt_in3 q1, zt_in3 q1]; exact X.2.2.2.2.1 j q2
    · intro l hl b hb
      rw [g3 l hl, zb_ogb (by omega) hb, X.2.2.2.2.2.1 l hl b hb]
      constructor
      · rintro (⟨q, -, e⟩ | ⟨q, e⟩)
        · exact ⟨Or.inl (by omega), by rw [zt_in1 q]; exact e⟩
        · have e' := (X.2.2.2.2.2.1 l hl (b - m) (by omega)).mp e
          refine ⟨Or.inr ⟨q, by omega⟩, ?_⟩
          rw [show b = (b - m) + m by omega, zt_in3 (by omega)]; exact e'.2
      · rintro ⟨q, e⟩
        rcases dm b q with q | ⟨j, q1, q2, rfl⟩
        · rw [zt_in1 q] at e; exact Or.inl ⟨q, by omega, e⟩
        · rw [zt_in3 q1] at e
          refine Or.inr ⟨by omega, (X.2.2.2.2.2.1 l hl _ (by omega)).mpr ?_⟩
          rw [Nat.add_sub_cancel]; exact ⟨q2, e⟩
    · intro l hl b hb
      rw [g4 l hl, zb_ogb (by omega) hb, X.2.2.2.2.2.2 l hl b hb]
      constructor
      · rintro (⟨q, -, e⟩ | ⟨q, e⟩)
        · exact ⟨Or.inl (by omega), by rw [zt_in1 q]; exact e⟩
        · have e' := (X.2.2.2.2.2.2 l hl (b - m) (by omega)).mp e
          refine ⟨Or.inr ⟨q, by omega⟩, ?_⟩
          rw [show b = (b - m) + m by omega, zt_in3 (by omega)]; exact e'.2
      · rintro ⟨q, e⟩
        rcases dm b q with q | ⟨j, q1, q2, rfl⟩
        · rw [zt_in1 q] at e; exact Or.inl ⟨q, by omega, e⟩
        · rw [zt_in3 q1] at e
          refine Or.inr ⟨by omega, (X.2.2.2.2.2.2 l hl _ (by omega)).mpr ?_⟩
          rw [Nat.add_sub_cancel]; exact ⟨q2, e⟩
  unfold wpX_paste
  by_cases z : md < 2
  · refine br_t (nI_lt (b := 2) z (by decide)) ?_
    unfold zr_pp at hp
    rw [if_pos z] at hp
    rw [hp] at main
    exact main
  · refine br_f (nI_nlt (b := 2) (by omega) (by omega)) ⟨vp_in_nI (by omega) (by omega), ?_⟩
    unfold zr_pp at hp
    rw [if_neg z] at hp
    have c : (nI (ord t)).toNatClampNeg = ord t := nI_clamp (by omega)
    have t0 := h2 (by omega)
    rw [c, X.2.1 t ht, if_neg (by omega), ← hp]
    exact main
theorem zx_cutOut {post : SX → Prop} {r : Nat} (h0 : 0 < r) (hr : r < n) (T : zr_T L D B n ord lev lab sz pr) (X : zr_X n ord lev lab sz pr xord xrk xpar xlab xlev xsz xlm xvm)
    (h : ∀ A R Sz LM VM, zr_X (n - (sz r + 1)) (zt_dl r (sz r + 1) ord) (zt_dl r (sz r + 1) lev) (zt_dl r (sz r + 1) lab) (zt_dl r (sz r + 1) (zt_dsz (pr r) (sz r + 1) sz)) (zt_dpr r (sz r + 1) pr) A R xpar xlab xlev Sz LM VM →
      post (xL, xD, xI, xB, nI (n - (sz r + 1)), xu, xbl, xfl, xfo, xfh, xpl, xpo, xrm, xrc, A, R, xpar, xlab, xlev, Sz, LM, VM, xbn, xbb, xbv, xbs, xlin, xgl, xgv, xgs, xgst, xpc, xpn, xpm, xoa, xsat)) : wpX_cutOut post (xL, xD, xI, xB, nI n, xu, xbl, xfl, xfo, xfh, xpl, xpo, xrm, xrc, xord, xrk, xpar, xlab, xlev, xsz, xlm, xvm, xbn, xbb, xbv, xbs, xlin, xgl, xgv, xgs, xgst, xpc, xpn, xpm, xoa, xsat) (nI (ord r)) := by
  have hb := T.2.1
  have a2 := T.2.2.2.1 r hr
  have Sr := T.1.2.2.2 r hr
  have S := Sr.1
  have Pr := T.1.2.2.1 r h0 hr
  have hpr := Pr.1
  have q0 := zt_prs T.1 h0 hr
  have cr : (nI (ord r)).toNatClampNeg = ord r := nI_clamp (by omega)
  have vr : vp_in (nI (ord r)) 32 := vp_in_nI (by omega) (by omega)
  unfold wpX_cutOut
  refine ⟨vr, nm_r (e' := nI (sz r + 1)) (by rw [cr, X.2.2.2.2.1 r hr, nI_1]) ⟨vr, ?_⟩⟩
  rw [cr, X.2.1 r hr, if_neg (by omega)]
  obtain ⟨m, hm⟩ : ∃ m, m = sz r + 1 := ⟨_, rfl⟩
  rw [← hm] at h ⊢
  refine zx_grow T X.2.1 X.2.2.2.1 (show pr r < n by omega) (-nI m) fun s s1 s2 => ⟨vr, ?_⟩
  rw [(X.1 r hr).2]
  refine zx_closeGap X.1 T.2.2.2.2 (fun i hi => by have := (T.2.2.2.1 i hi).1; omega) (by omega) (by omega) (by omega) (by omega) fun A R LM VM g1 g2 g3 g4 => ?_
  refine h A R s LM VM ⟨fun i hi => ?_, fun i hi => ?_, fun i hi => ?_, fun i hi => ?_, fun i hi => ?_, fun l hl b hb => ?_, fun l hl b hb => ?_⟩
  · rcases Nat.lt_or_ge i r with z | z
    · rw [zt_dl1 z]; exact g1 i z
    · rw [zt_dl2 z]; exact g2 i z hi
  · have hi : i < n - m := hi
    unfold zt_dpr
    rcases Nat.lt_or_ge i r with z | z
    · rw [zt_dl1 z, if_pos z, X.2.1 i (by omega)]
      by_cases y : i = 0
      · rw [if_pos y, if_pos y]
      · have := (T.1.2.2.1 i (by omega) (by omega)).1
        rw [if_neg y, if_neg y, zt_dl1 (by omega)]
    · have := (T.1.2.2.1 (i + m) (by omega) (by omega)).1
      rw [zt_dl2 z, if_neg (show ¬ i < r by omega), X.2.1 (i + m) (by omega), if_neg (by omega), if_neg (by omega)]
      by_cases y : pr (i + m) < r
      · rw [if_pos y, zt_dl1 y]
      · rcases zt_prout T.1 hr (show i + m < n by omega) (by omega) with w | w
        · exact absurd w y
        · rw [if_neg y, zt_dl2 (by omega), show pr (i + m) - m + m = pr (i + m) by omega]
  · have hi : i < n - m := hi
    rcases Nat.lt_or_ge i r with z | z
    · rw [zt_dl1 z, zt_dl1 z]; exact X.2.2.1 i (by omega)
    · rw [zt_dl2 z, zt_dl2 z]; exact X.2.2.1 _ (by omega)
  · have hi : i < n - m := hi
    rcases Nat.lt_or_ge i r with z | z
    · rw [zt_dl1 z, zt_dl1 z]; exact X.2.2.2.1 i (by omega)
    · rw [zt_dl2 z, zt_dl2 z]; exact X.2.2.2.1 _ (by omega)
  · have hi : i < n - m := hi
    have eq : ∀ j, j < n → (zt_as lev j (pr r) ↔ j ≤ pr r ∧ pr r ≤ j + sz j) := fun j hj => zt_asS (T.1.2.2.2 j hj) (by omega)
    have val : ∀ j, j < n → s (ord j) = nI (zt_dsz (pr r) m sz j) := by
      intro j hj
      unfold zt_dsz
      by_cases q : j ≤ pr r ∧ pr r ≤ j + sz j
      · have q1 := zt_nest T.1 hj q.1 q.2
        have q2 := zt_nest T.1 hj (show j ≤ r by omega) (by omega)
        rw [s1 j hj ((eq j hj).mpr q), X.2.2.2.2.1 j hj, if_pos q, ← Int32.sub_eq_add_neg, pk_sub (by omega)]
      · rw [s2 j hj (fun z => q ((eq j hj).mp z)), X.2.2.2.2.1 j hj, if_neg q]
    rcases Nat.lt_or_ge i r with z | z
    · rw [zt_dl1 z, zt_dl1 z]; exact val i (by omega)
    · rw [zt_dl2 z, zt_dl2 z]; exact val _ (by omega)
  · rw [g3 l hl, zb_cgb (by omega) hb, X.2.2.2.2.2.1 l hl b hb]
    constructor
    · rintro (⟨q, -, e⟩ | ⟨q, e⟩)
      · exact ⟨by show b < n - m; omega, by rw [zt_dl1 q]; exact e⟩
      · have hbm : b + m < 32 := (zb_mem.mp (zb_mem'.mpr e)).1
        have e' := (X.2.2.2.2.2.1 l hl (b + m) hbm).mp e
        exact ⟨by have := e'.1; show b < n - m; omega, by rw [zt_dl2 q]; exact e'.2⟩
    · rintro ⟨q, e⟩
      have q : b < n - m := q
      rcases Nat.lt_or_ge b r with z | z
      · rw [zt_dl1 z] at e; exact Or.inl ⟨z, by show b < n; omega, e⟩
      · rw [zt_dl2 z] at e; exact Or.inr ⟨z, (X.2.2.2.2.2.1 l hl _ (by omega)).mpr ⟨by show b + m < n; omega, e⟩⟩
  · rw [g4 l hl, zb_cgb (by omega) hb, X.2.2.2.2.2.2 l hl b hb]
    constructor
    · rintro (⟨q, -, e⟩ | ⟨q, e⟩)
      · exact ⟨by show b < n - m; omega, by rw [zt_dl1 q]; exact e⟩
      · have hbm : b + m < 32 := (zb_mem.mp (zb_mem'.mpr e)).1
        have e' := (X.2.2.2.2.2.2 l hl (b + m) hbm).mp e
        exact ⟨by have := e'.1; show b < n - m; omega, by rw [zt_dl2 q]; exact e'.2⟩
    · rintro ⟨q, e⟩
      have q : b < n - m := q
      rcases Nat.lt_or_ge b r with z | z
      · rw [zt_dl1 z] at e; exact Or.inl ⟨z, by show b < n; omega, e⟩
      · rw [zt_dl2 z] at e; exact Or.inr ⟨z, (X.2.2.2.2.2.2 l hl _ (by omega)).mpr ⟨by show b + m < n; omega, e⟩⟩
end
end
end
section
section
variable {yL yD yI yB yn yfc yfo ypc yrc ybc ylc : Int32} {yord ypar ylab ycell yit yres ybn ybcell ylist ycur ynext yholds : Nat → Int32}
variable {L D B n : Nat} {ord lev lab sz pr : Nat → Nat}
theorem zy_rankG {post : Int32 → Prop} {x : Int32} (hn : n ≤ 32) (O : ∀ i, i < n → yord i = nI (ord i)) (h1 : ∀ i, i < n → x = nI (ord i) → post (nI i)) (h0 : ¬ zr_lv n ord x → post (-1)) : wpY_rank post (yL, yD, yI, yB, nI n, yfc, yfo, ypc, yrc, ybc, ylc, yord, ypar, ylab, ycell, yit, yres, ybn, ybcell, ylist, ycur, ynext, yholds) x := by
  have key : ∀ d j, j + d = n → (∀ i, i < j → x ≠ nI (ord i)) → wY_rank_2 post x yL yD yI yB (nI n) yfc yfo ypc yrc ybc ylc yord ypar ylab ycell yit yres ybn ybcell ylist ycur ynext yholds (d + 1) (nI j) := by
    intro d
    induction d with
    | zero =>
      intro j hj hI
      have e : j = n := by omega
      subst e
      exact br_t (nI_le (Nat.le_refl _) (by omega)) (h0 (fun ⟨i, hi, e⟩ => hI i hi e))
    | succ d ih =>
      intro j hj hI
      have c : (nI j).toNatClampNeg = j := nI_clamp (by omega)
      refine br_f (nI_ge (by omega) (by omega)) ⟨vp_in_nI (by omega) (by omega), ?_⟩
      rw [c, O j (by omega)]
      exact br_c (fun e => h1 j (by omega) e.symm) (fun e => nm_r (nI_1 j) (ih (j + 1) (by omega) (lt_s hI (fun q => e q.symm))))
  unfold wpY_rank
  exact ⟨n + 1, key n 0 (by omega) lt_0⟩
theorem zy_rank1 {post : Int32 → Prop} (T : zr_T L D B n ord lev lab sz pr) (O : ∀ i, i < n → yord i = nI (ord i)) {i : Nat} (hi : i < n) (h : post (nI i)) : wpY_rank post (yL, yD, yI, yB, nI n, yfc, yfo, ypc, yrc, ybc, ylc, yord, ypar, ylab, ycell, yit, yres, ybn, ybcell, ylist, ycur, ynext, yholds) (nI (ord i)) := by
  have hb := T.2.1
  refine zy_rankG (by omega) O (fun j hj e => ?_) (fun z => absurd ⟨i, hi, rfl⟩ z)
  rw [← (zr_nIj T hi hj).mp e]; exact h
theorem zy_rank0 {post : Int32 → Prop} (T : zr_T L D B n ord lev lab sz pr) (O : ∀ i, i < n → yord i = nI (ord i)) {x : Int32} (hx : ¬ zr_lv n ord x) (h : post (-1)) : wpY_rank post (yL, yD, yI, yB, nI n, yfc, yfo, ypc, yrc, ybc, ylc, yord, ypar, ylab, ycell, yit, yres, ybn, ybcell, ylist, ycur, ynext, yholds) x := by
  have hb := T.2.1
  exact zy_rankG (by omega) O (fun j hj e => absurd ⟨j, hj, e⟩ hx) (fun _ => h)
def zy_pv (ord pr : Nat → Nat) (i : Nat) : Int32 := if i = 0 then -1 else nI (ord (pr i))
theorem zy_level {post : Int32 → Prop} (T : zr_T L D B n ord lev lab sz pr) (P : zr_P (· < n) ord pr ypar) {i : Nat} (hi : i < n) (h : post (nI (lev i))) : wpY_level post (yL, yD, yI, yB, yn, yfc, yfo, ypc, yrc, ybc, ylc, yord, ypar, ylab, ycell, yit, yres, ybn, ybcell, ylist, ycur, ynext, yholds) (nI (ord i)) := by
  have hb := T.2.1
  have key : ∀ d c s, lev c = d → c < n → s + d = lev i → wY_level_9 post yL yD yI yB yn yfc yfo ypc yrc ybc ylc yord ypar ylab ycell yit yres ybn ybcell ylist ycur ynext yholds (d + 1) (zy_pv ord pr c) (nI s) := by
    intro d
    induction d with
    | zero =>
      intro c s hc hcn hs
      have hl := (T.2.2.2.1 i hi).2.1
      have hc0 : c = 0 := zt_lev0 T.1 hcn hc
      subst hc0
      refine br_f (nI_ge (b := 32) (by omega) (by omega)) (br_f (show ¬ (0 : Int32) ≤ -1 by decide) ?_)
      rw [show s = lev i by omega]; exact h
    | succ d ih =>
      intro c s hc hcn hs
      have hl := (T.2.2.2.1 i hi).2.1
      have c0 : 0 < c := by
        rcases Nat.eq_zero_or_pos c with z | z
        · rw [z, T.1.2.1] at hc; omega
        · exact z
      have Pc := T.1.2.2.1 c c0 hcn
      have hpc := Pc.1
      have a := T.2.2.2.1 (pr c) (by omega)
      have e : zy_pv ord pr c = nI (ord (pr c)) := if_neg (by omega)
      have cc : (nI (ord (pr c))).toNatClampNeg = ord (pr c) := nI_clamp (by omega)
      rw [e]
      exact br_f (nI_ge (b := 32) (by omega) (by omega)) (br_t (nI_pos' (by omega)) ⟨vp_in_nI (by omega) (by omega), nm_r (e' := zy_pv ord pr (pr c)) (by rw [cc]; exact P (pr c) (by omega)) (nm_r (nI_1 s) (ih (pr c) (s + 1) (by have := Pc.2.1; omega) (by omega) (by omega)))⟩)
  have a := T.2.2.2.1 i hi
  have cc : (nI (ord i)).toNatClampNeg = ord i := nI_clamp (by omega)
  unfold wpY_level
  exact ⟨vp_in_nI (by omega) (by omega), nm_r (e' := zy_pv ord pr i) (by rw [cc]; exact P i hi) ⟨lev i + 1, key (lev i) i 0 rfl hi (by omega)⟩⟩
theorem zy_above {post : Int32 → Prop} (T : zr_T L D B n ord lev lab sz pr) (P : zr_P (· < n) ord pr ypar) {j i : Nat} (hj : j < n) (hi : i < n) (h1 : j < i ∧ i ≤ j + sz j → post 1) (h0 : ¬ (j < i ∧ i ≤ j + sz j) → post 0) : wpY_above post (yL, yD, yI, yB, yn, yfc, yfo, ypc, yrc, ybc, ylc, yord, ypar, ylab, ycell, yit, yres, ybn, ybcell, ylist, ycur, ynext, yholds) (nI (ord j)) (nI (ord i)) := by
  have hb := T.2.1
  have eqv : (zt_as lev j i ∧ j ≠ i) ↔ j < i ∧ i ≤ j + sz j := by
    rw [zt_asS (T.1.2.2.2 j hj) hi]; omega
  have key : ∀ d c s, lev c = d → c < n → s + d ≤ 8 → ((zt_as lev j c ∧ j ≠ c) ↔ (zt_as lev j i ∧ j ≠ i)) → wY_above_10 post (nI (ord j)) yL yD yI yB yn yfc yfo ypc yrc ybc ylc yord ypar ylab ycell yit yres ybn ybcell ylist ycur ynext yholds (d + 1) (zy_pv ord pr c) (nI s) := by
    intro d
    induction d with
    | zero =>
      intro c s hc hcn hs hq
      have hc0 : c = 0 := zt_lev0 T.1 hcn hc
      subst hc0
      refine br_t (show (-1 : Int32) < 0 by decide) (h0 ?_)
      rw [← eqv, ← hq]
      rintro ⟨q1, q2⟩
      exact q2 (by have := q1.1; omega)
    | succ d ih =>
      intro c s hc hcn hs hq
      have c0 : 0 < c := by
        rcases Nat.eq_zero_or_pos c with z | z
        · rw [z, T.1.2.1] at hc; omega
        · exact z
      have Pc := T.1.2.2.1 c c0 hcn
      have hpc := Pc.1
      have a := T.2.2.2.1 (pr c) (by omega)
      have e : zy_pv ord pr c = nI (ord (pr c)) := if_neg (by omega)
      have cc : (nI (ord (pr c))).toNatClampNeg = ord (pr c) := nI_clamp (by omega)
      rw [e]
      refine br_f (nI_pos (by omega)) (br_f (nI_ge (b := 32) (by omega) (by omega)) (br_c (fun z => ?_) (fun z => ⟨vp_in_nI (by omega) (by omega), nm_r (e' := zy_pv ord pr (pr c)) (by rw [cc]; exact P (pr c) (by omega)) (nm_r (nI_1 s) (ih (pr c) (s + 1) (by have := Pc.2.1; omega) (by omega) (by omega) ?_))⟩)))
      · have ej := (zr_nIj T (show pr c < n by omega) hj).mp z
        refine h1 (eqv.mp (hq.mp ⟨(zt_asP Pc).mpr (Or.inr ?_), by omega⟩))
        rw [← ej]; exact zt_as_re _ _
      · rw [← hq, zt_asP Pc]
        have nj : j ≠ pr c := fun q => z (by rw [q])
        constructor
        · rintro ⟨q1, q2⟩
          exact ⟨Or.inr q1, by have := q1.1; omega⟩
        · rintro ⟨q1 | q1, q2⟩
          · exact absurd q1 q2
          · exact ⟨q1, nj⟩
  have a := T.2.2.2.1 i hi
  have cc : (nI (ord i)).toNatClampNeg = ord i := nI_clamp (by omega)
  unfold wpY_above
  exact ⟨vp_in_nI (by omega) (by omega), nm_r (e' := zy_pv ord pr i) (by rw [cc]; exact P i hi) ⟨lev i + 1, key (lev i) i 0 rfl hi (by omega) Iff.rfl⟩⟩
theorem zy_size {post : Int32 → Prop} (T : zr_T L D B n ord lev lab sz pr) (O : ∀ i, i < n → yord i = nI (ord i)) (P : zr_P (· < n) ord pr ypar) {r : Nat} (hr : r < n) (h : post (nI (sz r))) : wpY_size post (yL, yD, yI, yB, nI n, yfc, yfo, ypc, yrc, ybc, ylc, yord, ypar, ylab, ycell, yit, yres, ybn, ybcell, ylist, ycur, ynext, yholds) (nI (ord r)) := by
  have hb := T.2.1
  have S := (T.1.2.2.2 r hr).1
  have key : ∀ d k c, k + d = n → (k ≤ r + 1 → c = 0) → (r + 1 ≤ k → k ≤ r + sz r + 1 → c = k - r - 1) → (r + sz r + 1 ≤ k → c = sz r) → wY_size_4 post (nI (ord r)) yL yD yI yB (nI n) yfc yfo ypc yrc ybc ylc yord ypar ylab ycell yit yres ybn ybcell ylist ycur ynext yholds (d + 1) (nI c) (nI k) := by
    intro d
    induction d with
    | zero =>
      intro k c hk c1 c2 c3
      have e : k = n := by omega
      subst e
      refine br_t (nI_le (Nat.le_refl _) (by omega)) ?_
      rw [c3 (by omega)]; exact h
    | succ d ih =>
      intro k c hk c1 c2 c3
      have ck : (nI k).toNatClampNeg = k := nI_clamp (by omega)
      refine br_f (nI_ge (by omega) (by omega)) ⟨vp_in_nI (by omega) (by omega), ?_⟩
      rw [ck, O k (by omega)]
      refine zy_above T P hr (by omega) (fun z => br_f (by decide) (nm_r (nI_1 c) (nm_r (nI_1 k) (ih (k + 1) (c + 1) (by omega) ?_ ?_ ?_)))) (fun z => br_t rfl (nm_r (nI_1 k) (ih (k + 1) c (by omega) ?_ ?_ ?_)))
      all_goals omega
  unfold wpY_size
  exact ⟨n + 1, key n 0 0 (by omega) (by omega) (by omega) (by omega)⟩
theorem zy_placeRank {post : Int32 → Prop} (T : zr_T L D B n ord lev lab sz pr) (O : ∀ i, i < n → yord i = nI (ord i)) (P : zr_P (· < n) ord pr ypar) {t md : Nat} (ht : t < n) (hm : md < 4)
    (h : post (nI (zr_at sz md t))) : wpY_placeRank post (yL, yD, yI, yB, nI n, yfc, yfo, ypc, yrc, ybc, ylc, yord, ypar, ylab, ycell, yit, yres, ybn, ybcell, ylist, ycur, ynext, yholds) (nI (ord t)) (nI md) := by
  unfold wpY_placeRank
  unfold zr_at at h
  refine zy_rank1 T O ht ?_
  by_cases z2 : md = 2
  · rw [if_pos z2] at h
    exact br_t (by rw [z2]; rfl) h
  · rw [if_neg z2] at h
    refine br_f (fun q => z2 ((nI_eq (b := 2) (by omega) (by omega)).mp q)) ?_
    by_cases z0 : md = 0
    · rw [if_pos z0] at h
      refine br_t (by rw [z0]; rfl) ?_
      rw [nI_1]; exact h
    · rw [if_neg z0] at h
      refine br_f (fun q => z0 ((nI_eq (b := 0) (by omega) (by omega)).mp q)) (zy_size T O P ht ?_)
      rw [nI_1, nI_add, show t + 1 + sz t = t + sz t + 1 by omega]; exact h
theorem zy_tooDeep {post : Int32 → Prop} (T : zr_T L D B n ord lev lab sz pr) (P : zr_P (· < n) ord pr ypar) {m p : Nat} {bv bl : Nat → Nat} (hp : p < n) (hm : m ≤ 32) (hc : ∀ i, i < m → ybcell i = nI (8 * bv i + bl i) ∧ bl i < 8 ∧ bv i ≤ 8)
    (h0 : (∀ i, i < m → lev p + 1 + bv i ≤ D) → post 0) (h1 : (∃ i, i < m ∧ D < lev p + 1 + bv i) → post 1) : wpY_tooDeep post (yL, nI D, yI, yB, yn, yfc, yfo, ypc, yrc, nI m, ylc, yord, ypar, ylab, ycell, yit, yres, ybn, ybcell, ylist, ycur, ynext, yholds) (nI (ord p)) := by
  have hb := T.2.1
  have key : ∀ d i, i + d = m → (∀ j, j < i → lev p + 1 + bv j ≤ D) → wY_tooDeep_2 post (nI (ord p)) yL (nI D) yI yB yn yfc yfo ypc yrc (nI m) ylc yord ypar ylab ycell yit yres ybn ybcell ylist ycur ynext yholds (d + 1) (nI i) := by
    intro d
    induction d with
    | zero =>
      intro i hi hI
      have e : i = m := by omega
      subst e
      exact br_t (nI_le (Nat.le_refl _) (by omega)) (h0 hI)
    | succ d ih =>
      intro i hi hI
      have ck : (nI i).toNatClampNeg = i := nI_clamp (by omega)
      obtain ⟨e1, e2, e3⟩ := hc i (by omega)
      have lp := (T.2.2.2.1 p hp).2.1
      refine br_f (nI_ge (by omega) (by omega)) (zy_level T P hp ⟨vp_in_nI (by omega) (by omega), by decide, ?_⟩)
      rw [ck, e1, show nI (8 * bv i + bl i) / 8 = nI (bv i) from (pk_div (d := 8) (by omega) (by omega) (by omega)).trans (congrArg nI (by omega)), nI_1, nI_add]
      exact pk_le _ _ (fun z => nm_r (nI_1 i) (ih (i + 1) (by omega) (lt_s hI z))) (fun z => h1 ⟨i, by omega, z⟩)
  unfold wpY_tooDeep
  exact ⟨m + 1, key m 0 (by omega) lt_0⟩
theorem zy_putAt {post : SY → Prop} {a : Nat} {x : Int32} (ha : a ≤ n) (hn : n < 32) (h : ∀ A, (∀ i, i < a → A i = yord i) → A a = x → (∀ i, a ≤ i → i < n → A (i + 1) = yord i) → post (yL, yD, yI, yB, nI (n + 1), yfc, yfo, ypc, yrc, ybc, ylc, A, ypar, ylab, ycell, yit, yres, ybn, ybcell, ylist, ycur, ynext, yholds)) : wpY_putAt post (yL, yD, yI, yB, nI n, yfc, yfo, ypc, yrc, ybc, ylc, yord, ypar, ylab, ycell, yit, yres, ybn, ybcell, ylist, ycur, ynext, yholds) (nI a) x := by
  have key : ∀ d (A : Nat → Int32), a + d ≤ n → (∀ i, i < a + d + 1 → i < n → A i = yord i) → (∀ i, a + d ≤ i → i < n → A (i + 1) = yord i) → wY_putAt_5 post (nI a) x yL yD yI yB (nI n) yfc yfo ypc yrc ybc ylc (d + 1) (nI (a + d)) A ypar ylab ycell yit yres ybn ybcell ylist ycur ynext yholds := by
    intro d
    induction d with
    | zero =>
      intro A hd g1 g2
      have ca : (nI a).toNatClampNeg = a := nI_clamp (by omega)
      refine br_t (nI_le (by omega) (by omega)) ⟨vp_in_nI (by omega) (by omega), nm_e (nm_r (nI_1 n) (h _ ?_ ?_ ?_))⟩
      · intro i hi; rw [ca, pk_un (by omega)]; exact g1 i (by omega) (by omega)
      · rw [ca, pk_us]
      · intro i hi hin; rw [ca, pk_un (by omega)]; exact g2 i (by omega) hin
    | succ d ih =>
      intro A hd g1 g2
      have e : nI (a + (d + 1)) - 1 = nI (a + d) := nI_pred (a + d)
      have c1 : (nI (a + d)).toNatClampNeg = a + d := nI_clamp (by omega)
      have c2 : (nI (a + (d + 1))).toNatClampNeg = a + (d + 1) := nI_clamp (by omega)
      refine br_f (nI_ge (by omega) (by omega)) ?_
      rw [e, c1, c2]
      refine ⟨vp_in_nI (by omega) (by omega), vp_in_nI (by omega) (by omega), nm_e (nm_r (pk_m1 (a + d)) (ih _ (by omega) ?_ ?_))⟩
      · intro i hi hin; rw [pk_un (by omega)]; exact g1 i (by omega) hin
      · intro i hi hin
        by_cases z : i = a + d
        · subst z; rw [show a + (d + 1) = a + d + 1 by omega, pk_us]; exact g1 _ (by omega) hin
        · rw [pk_un (by omega)]; exact g2 i (by omega) hin
  unfold wpY_putAt
  have := key (n - a) yord (by omega) (fun i _ _ => rfl) (fun i h1 h2 => by omega)
  rw [show a + (n - a) = n by omega] at this
  exact ⟨_, this⟩
end
/-! ===== the place's refusal: one answer for both ===== -/
section
variable {xL xD xI xB xn xu xbl xfl xfo xfh xpl xpo xrm xrc : Int32} {xord xrk xpar xlab xlev xsz xlm xvm xbn xbb xbv xbs xlin xgl xgv xgs xgst xpc xpn xpm xoa xsat : Nat → Int32}
variable {yL yD yI yB yn yfc yfo ypc yrc ybc ylc : Int32} {yord ypar ylab ycell yit yres ybn ybcell ylist ycur ynext yholds : Nat → Int32}
variable {L D B n : Nat} {ord lev lab sz pr : Nat → Nat}
theorem zr_refuse (T : zr_T L D B n ord lev lab sz pr) (U : zr_U n ord xu) (O : ∀ i, i < n → yord i = nI (ord i)) (p0 p1 : Int32) :
    ∃ r : Int32, ((r < 0 ∧ (¬ (0 : Int32) ≤ r)) ∨ (r = 0 ∧ ∃ t md, t < n ∧ md < 4 ∧ (2 ≤ md → 0 < t) ∧ p0 = nI (ord t) ∧ p1 = nI md)) ∧
      (∀ post : Int32 → Prop, post r → wpX_placeRefusal post (nI L, xD, xI, xB, xn, xu, xbl, xfl, xfo, xfh, xpl, xpo, xrm, xrc, xord, xrk, xpar, xlab, xlev, xsz, xlm, xvm, xbn, xbb, xbv, xbs, xlin, xgl, xgv, xgs, xgst, xpc, xpn, xpm, xoa, xsat) p0 p1) ∧ (∀ post : Int32 → Prop, post r → wpY_placeRefusal post (yL, yD, yI, yB, nI n, yfc, yfo, ypc, yrc, ybc, ylc, yord, ypar, ylab, ycell, yit, yres, ybn, ybcell, ylist, ycur, ynext, yholds) p0 p1) := by
  have hb := T.2.1
  by_cases lv : zr_lv n ord p0
  · obtain ⟨t, ht, rfl⟩ := lv
    by_cases c1 : p1 < 0
    · exact ⟨-4, Or.inl (by decide), fun post h => by unfold wpX_placeRefusal; exact zx_live1 T U ht (br_f (by decide) (br_t c1 h)), fun post h => by unfold wpY_placeRefusal; exact zy_rank1 T O ht (br_t (nI_pos' (by omega)) (br_t c1 h))⟩
    · by_cases c2 : p1 ≤ 3
      · obtain ⟨md, hmd, rfl⟩ := nI_of2 (M := 3) (n := 3) (by decide) c1 c2
        by_cases c3 : md < 2
        · have l2 : nI md < 2 := nI_lt (b := 2) c3 (by decide)
          exact ⟨0, Or.inr ⟨rfl, t, md, ht, by omega, by omega, rfl, rfl⟩, fun post h => by unfold wpX_placeRefusal; exact zx_live1 T U ht (br_f (by decide) (br_f c1 (br_t c2 (br_t l2 h)))), fun post h => by unfold wpY_placeRefusal; exact zy_rank1 T O ht (br_t (nI_pos' (by omega)) (br_f c1 (br_t c2 (br_t l2 h))))⟩
        · have l2 : ¬ nI md < 2 := nI_nlt (b := 2) (by omega) (by omega)
          by_cases c4 : t = 0
          · have e0 : nI (ord t) = 0 := (zr_nI0 T ht).mpr c4
            exact ⟨-5, Or.inl (by decide), fun post h => by unfold wpX_placeRefusal; exact zx_live1 T U ht (br_f (by decide) (br_f c1 (br_t c2 (br_f l2 (br_t e0 h))))), fun post h => by unfold wpY_placeRefusal; exact zy_rank1 T O ht (br_t (nI_pos' (by omega)) (br_f c1 (br_t c2 (br_f l2 (br_t e0 h)))))⟩
          · have e0 : ¬ nI (ord t) = 0 := fun z => c4 ((zr_nI0 T ht).mp z)
            exact ⟨0, Or.inr ⟨rfl, t, md, ht, by omega, by omega, rfl, rfl⟩, fun post h => by unfold wpX_placeRefusal; exact zx_live1 T U ht (br_f (by decide) (br_f c1 (br_t c2 (br_f l2 (br_f e0 h))))), fun post h => by unfold wpY_placeRefusal; exact zy_rank1 T O ht (br_t (nI_pos' (by omega)) (br_f c1 (br_t c2 (br_f l2 (br_f e0 h)))))⟩
      · exact ⟨-4, Or.inl (by decide), fun post h => by unfold wpX_placeRefusal; exact zx_live1 T U ht (br_f (by decide) (br_f c1 (br_f c2 h))), fun post h => by unfold wpY_placeRefusal; exact zy_rank1 T O ht (br_t (nI_pos' (by omega)) (br_f c1 (br_f c2 h)))⟩
  · exact ⟨-2, Or.inl (by decide), fun post h => by unfold wpX_placeRefusal; exact zx_live0 T U lv (br_t rfl h), fun post h => by unfold wpY_placeRefusal; exact zy_rank0 T O lv (br_f (by decide) h)⟩
end
end
section
/-! ===== Y's edits ===== -/
section
variable {yL yD yI yB yn yfc yfo ypc yrc ybc ylc : Int32} {yord ypar ylab ycell yit yres ybn ybcell ylist ycur ynext yholds : Nat → Int32}
section
variable {L D B n : Nat} {ord lev lab sz pr : Nat → Nat}
theorem zy_gather {post : SY → Prop} (T : zr_T L D B n ord lev lab sz pr) (Y : zr_Y n ord lab pr yord ypar ylab) {r : Nat} (hr : r < n)
    (h : ∀ bn bc, (∀ j, j < sz r + 1 → bn j = nI (ord (r + j))) → (∀ j, j < sz r + 1 → bc j = nI (8 * (lev (r + j) - lev r) + lab (r + j))) → post (yL, yD, yI, yB, nI n, yfc, yfo, ypc, yrc, nI (sz r + 1), ylc, yord, ypar, ylab, ycell, yit, yres, bn, bc, ylist, ycur, ynext, yholds)) : wpY_gather post (yL, yD, yI, yB, nI n, yfc, yfo, ypc, yrc, ybc, ylc, yord, ypar, ylab, ycell, yit, yres, ybn, ybcell, ylist, ycur, ynext, yholds) (nI (ord r)) := by
  have hb := T.2.1
  have Sr := T.1.2.2.2 r hr
  have S := Sr.1
  have key : ∀ d i c (bn bc : Nat → Int32), i + d = n → (i ≤ r → c = 0) → (r ≤ i → i ≤ r + sz r + 1 → c = i - r) → (r + sz r + 1 ≤ i → c = sz r + 1) → (∀ j, j < c → bn j = nI (ord (r + j))) → (∀ j, j < c → bc j = nI (8 * (lev (r + j) - lev r) + lab (r + j))) →
      wY_gather_7 post (nI (ord r)) yL yD yI yB (nI n) yfc yfo ypc yrc ylc (d + 1) (nI i) (nI c) yord ypar ylab ycell yit yres bn bc ylist ycur ynext yholds := by
    intro d
    induction d with
    | zero =>
      intro i c bn bc hi c1 c2 c3 g1 g2
      have e : i = n := by omega
      subst e
      have ec := c3 (by omega)
      subst ec
      exact br_t (nI_le (Nat.le_refl _) (by omega)) (h bn bc g1 g2)
    | succ d ih =>
      intro i c bn bc hi c1 c2 c3 g1 g2
      have hin : i < n := by omega
      have ci : (nI i).toNatClampNeg = i := nI_clamp (by omega)
      have ai := T.2.2.2.1 i hin
      have co : (nI (ord i)).toNatClampNeg = ord i := nI_clamp (by omega)
      have vo : vp_in (nI (ord i)) 32 := vp_in_nI (by omega) (by omega)
      have put : r ≤ i → i ≤ r + sz r → wY_gather_39 post (wY_gather_7 post (nI (ord r)) yL yD yI yB (nI n) yfc yfo ypc yrc ylc (d + 1)) (nI (ord r)) (nI i) (nI (ord i)) yL yD yI yB (nI n) yfc yfo ypc yrc (nI c) ylc yord ypar ylab ycell yit yres bn bc ylist ycur ynext yholds := by
        intro z1 z2
        have ec : c = i - r := c2 z1 (by omega)
        have cc : (nI c).toNatClampNeg = c := nI_clamp (by omega)
        have vc : vp_in (nI c) 32 := vp_in_nI (by omega) (by omega)
        have lv : lev r ≤ lev i := zt_as_lev ((zt_asS Sr hin).mpr ⟨z1, z2⟩)
        unfold wY_gather_39
        refine ⟨vc, nm_e (nm_r (nI_1 c) (zy_level T Y.2.1 hin (zy_level T Y.2.1 hr ⟨vo, vc, nm_e (nm_r (nI_1 i) (ih (i + 1) (c + 1) _ _ (by omega) (by omega) (by omega) (by omega) ?_ ?_))⟩)))⟩
        · rw [cc]
          refine lt_s (fun j hj => ?_) ?_
          · rw [pk_un (by omega)]; exact g1 j hj
          · rw [pk_us, show r + c = i by omega]
        · rw [cc, co, Y.2.2 i hin, pk_sub lv, show (8 : Int32) = nI 8 from rfl, pk_mul, nI_add]
          refine lt_s (fun j hj => ?_) ?_
          · rw [pk_un (by omega)]; exact g2 j hj
          · rw [pk_us, show r + c = i by omega]
      refine br_f (nI_ge (by omega) (by omega)) ⟨vp_in_nI (by omega) (by omega), nm_r (e' := nI (ord i)) (by rw [ci]; exact Y.1 i hin) ?_⟩
      by_cases z : i = r
      · exact br_t (by rw [z]) (put (by omega) (by omega))
      · refine br_f (fun q => z ((zr_nIj T hin hr).mp q)) (zy_above T Y.2.1 hr hin (fun q => br_f (by decide) (put (by omega) (by omega))) (fun q => br_t rfl (nm_r (nI_1 i) (ih (i + 1) c _ _ (by omega) (by omega) (by omega) (by omega) g1 g2))))
  unfold wpY_gather
  exact ⟨n + 1, key n 0 0 _ _ (by omega) (by omega) (by omega) (by omega) lt_0 lt_0⟩
theorem zy_cut {post : SY → Prop} (T : zr_T L D B n ord lev lab sz pr) (Y : zr_Y n ord lab pr yord ypar ylab) {r : Nat} (h0 : 0 < r) (hr : r < n)
    (h : ∀ A, zr_Y (n - (sz r + 1)) (zt_dl r (sz r + 1) ord) (zt_dl r (sz r + 1) lab) (zt_dpr r (sz r + 1) pr) A ypar ylab → post (yL, yD, yI, yB, nI (n - (sz r + 1)), yfc, yfo, ypc, 0, nI (sz r + 1), ylc, A, ypar, ylab, ycell, yit, yres, ybn, ybcell, ylist, ycur, ynext, yholds)) : wpY_cut post (yL, yD, yI, yB, nI n, yfc, yfo, ypc, yrc, nI (sz r + 1), ylc, yord, ypar, ylab, ycell, yit, yres, ybn, ybcell, ylist, ycur, ynext, yholds) (nI (ord r)) := by
  have hb := T.2.1
  have Sr := T.1.2.2.2 r hr
  have S := Sr.1
  have P1 : zr_P (· < n - (sz r + 1)) (zt_dl r (sz r + 1) ord) (zt_dpr r (sz r + 1) pr) ypar := by
    intro i hi
    have hi : i < n - (sz r + 1) := hi
    unfold zt_dpr
    rcases Nat.lt_or_ge i r with z | z
    · rw [zt_dl1 z, if_pos z, Y.2.1 i (by show i < n; omega)]
      by_cases y : i = 0
      · rw [if_pos y, if_pos y]
      · have := (T.1.2.2.1 i (by omega) (by omega)).1
        rw [if_neg y, if_neg y, zt_dl1 (by omega)]
    · have := (T.1.2.2.1 (i + (sz r + 1)) (by omega) (by omega)).1
      rw [zt_dl2 z, if_neg (show ¬ i < r by omega), Y.2.1 (i + (sz r + 1)) (by show i + (sz r + 1) < n; omega), if_neg (by omega), if_neg (by omega)]
      by_cases y : pr (i + (sz r + 1)) < r
      · rw [if_pos y, zt_dl1 y]
      · rcases zt_prout T.1 hr (show i + (sz r + 1) < n by omega) (by omega) with w | w
        · exact absurd w y
        · rw [if_neg y, zt_dl2 (by omega), show pr (i + (sz r + 1)) - (sz r + 1) + (sz r + 1) = pr (i + (sz r + 1)) by omega]
  have L1 : zr_c (· < n - (sz r + 1)) (zt_dl r (sz r + 1) ord) (zt_dl r (sz r + 1) lab) ylab := by
    intro i hi
    have hi : i < n - (sz r + 1) := hi
    rcases Nat.lt_or_ge i r with z | z
    · rw [zt_dl1 z, zt_dl1 z]; exact Y.2.2 i (by show i < n; omega)
    · rw [zt_dl2 z, zt_dl2 z]; exact Y.2.2 _ (by show _ < n; omega)
  obtain ⟨m, hm⟩ : ∃ m, m = sz r + 1 := ⟨_, rfl⟩
  rw [← hm] at h P1 L1 ⊢
  have key : ∀ d j (A : Nat → Int32), j + d = n - m → r ≤ j → (∀ i, i < r → A i = nI (ord i)) → (∀ i, r ≤ i → i < j → A i = nI (ord (i + m))) → (∀ i, j ≤ i → i < n - m → A (i + m) = nI (ord (i + m))) →
      wY_cut_26 post yL yD yI yB (nI (n - m)) yfc yfo ypc 0 (nI m) ylc (d + 1) (nI j) A ypar ylab ycell yit yres ybn ybcell ylist ycur ynext yholds := by
    intro d
    induction d with
    | zero =>
      intro j A hd hrj g1 g2 g3
      have e : j = n - m := by omega
      subst e
      refine br_t (nI_le (Nat.le_refl _) (by omega)) (h A ⟨fun i hi => ?_, P1, L1⟩)
      rcases Nat.lt_or_ge i r with z | z
      · rw [zt_dl1 z]; exact g1 i z
      · rw [zt_dl2 z]; exact g2 i z hi
    | succ d ih =>
      intro j A hd hrj g1 g2 g3
      have c1 : (nI (j + m)).toNatClampNeg = j + m := nI_clamp (by omega)
      have c2 : (nI j).toNatClampNeg = j := nI_clamp (by omega)
      refine br_f (nI_ge (by omega) (by omega)) ?_
      rw [nI_add, c1, c2, g3 j (by omega) (by omega)]
      refine ⟨vp_in_nI (by omega) (by omega), vp_in_nI (by omega) (by omega), nm_e (nm_r (nI_1 j) (ih (j + 1) _ (by omega) (by omega) ?_ ?_ ?_))⟩
      · intro i hi; rw [pk_un (by omega)]; exact g1 i hi
      · intro i hi hij
        by_cases z : i = j
        · subst z; rw [pk_us]
        · rw [pk_un z]; exact g2 i hi (by omega)
      · intro i hi hin; rw [pk_un (by omega)]; exact g3 i (by omega) hin
  unfold wpY_cut
  refine zy_rank1 T Y.1 hr (nm_r (pk_sub (by omega)) ⟨n - m - r + 1, key (n - m - r) r _ (by omega) (Nat.le_refl _) (fun i hi => Y.1 i (by omega)) (fun i h1 h2 => by omega) (fun i h1 h2 => Y.1 _ (by omega))⟩)
end
/-! graft -/
section
variable {L n m a : Nat} {ord bno : Nat → Nat}
theorem zt_inS1 {k i : Nat} {f g : Nat → Nat} (h : i < a + k) : zt_in a (k + 1) f g i = zt_in a k f g i := by
  unfold zt_in
  by_cases z : i < a
  · rw [if_pos z, if_pos z]
  · rw [if_neg z, if_neg z, if_pos (by omega), if_pos h]
theorem zt_inS2 {k i : Nat} {f g : Nat → Nat} (h : a + k ≤ i) : zt_in a (k + 1) f g (i + 1) = zt_in a k f g i := by
  unfold zt_in
  rw [if_neg (by omega), if_neg (by omega), if_neg (by omega), if_neg (by omega)]
  exact congrArg f (by omega)
/-- the inner search for the nearest earlier node a level above -/
theorem zy_g140 {post : Int32 → SY → Prop} {J : Int32 → Int32 → Int32 → Int32 → Int32 → Int32 → Int32 → Int32 → Int32 → Int32 → Int32 → Int32 → (Nat → Int32) → (Nat → Int32) → (Nat → Int32) → (Nat → Int32) → (Nat → Int32) → (Nat → Int32) → (Nat → Int32) → (Nat → Int32) → (Nat → Int32) → (Nat → Int32) → (Nat → Int32) → (Nat → Int32) → Prop}
    {x3 : Int32} {k no : Nat} {bv bl bp : Nat → Nat} (hk : k < 32) (hak : a + k < 32) (hno : no < 32) (hc : ∀ i, i ≤ k → ybcell i = nI (8 * bv i + bl i) ∧ bl i < 8 ∧ bv i ≤ 8) (ho : ∀ j, j < k → yord (a + j) = nI (bno j)) (hP : bv k = 0 ∨ zt_P bv (bp k) k)
    (Q : Nat → Int32) (vp : Int32)
    (h : ∀ Pa, (∀ y, y ≠ no → Pa y = Q y) → (Pa no = if bv k = 0 then vp else nI (bno (bp k))) → J (nI (k + 1)) yL yD yI yB yn yfc yfo ypc yrc ybc ylc yord Pa ylab ycell yit yres ybn ybcell ylist ycur ynext yholds) :
    ∀ d j (Pa : Nat → Int32), j + d = k → (∀ y, y ≠ no → Pa y = Q y) → (bv k = 0 → Pa no = vp) → (bv k ≠ 0 → bp k < j → Pa no = nI (bno (bp k))) →
      wY_graft_140 post J x3 (nI a) (nI k) (nI no) yL yD yI yB yn yfc yfo ypc yrc ybc ylc (d + 1) (nI j) yord Pa ylab ycell yit yres ybn ybcell ylist ycur ynext yholds := by
  intro d
  induction d with
  | zero =>
    intro j Pa hj g1 g2 g3
    have e : j = k := by omega
    subst e
    refine br_t (nI_le (Nat.le_refl _) (by omega)) (nm_r (nI_1 j) (h Pa g1 ?_))
    by_cases z : bv j = 0
    · rw [if_pos z]; exact g2 z
    · rw [if_neg z]
      refine g3 z ?_
      rcases hP with q | q
      · exact absurd q z
      · exact q.1
  | succ d ih =>
    intro j Pa hj g1 g2 g3
    have cj : (nI j).toNatClampNeg = j := nI_clamp (by omega)
    have ck : (nI k).toNatClampNeg = k := nI_clamp (by omega)
    have cn : (nI no).toNatClampNeg = no := nI_clamp (by omega)
    have caj : (nI (a + j)).toNatClampNeg = a + j := nI_clamp (by omega)
    have dv : ∀ i, i ≤ k → ybcell i / 8 = nI (bv i) := fun i hi => by
      obtain ⟨e1, e2, e3⟩ := hc i hi
      rw [e1]
      exact (pk_div (d := 8) (by omega) (by omega) (by omega)).trans (congrArg nI (by omega))
    have bj := (hc j (by omega)).2.2
    have bk := (hc k (by omega)).2.2
    refine br_f (nI_ge (by omega) (by omega)) ⟨vp_in_nI (by omega) (by omega), by decide, vp_in_nI (by omega) (by omega), by decide, ?_⟩
    rw [cj, ck, dv j (by omega), dv k (Nat.le_refl _)]
    have cond : nI (bv j) = nI (bv k) - 1 ↔ bv j + 1 = bv k := by
      by_cases z : bv k = 0
      · rw [z]
        constructor
        · intro e
          exfalso
          have : nI (bv j) < 0 := by rw [e]; decide
          exact nI_pos (by omega) this
        · intro e; omega
      · rw [show nI (bv k) - 1 = nI (bv k - 1) by rw [show bv k = (bv k - 1) + 1 by omega]; exact nI_pred _, nI_eq (by omega) (by omega)]
        omega
    by_cases z : bv j + 1 = bv k
    · refine br_t (cond.mpr z) ?_
      rw [nI_add, caj, cn, ho j (by omega)]
      refine ⟨vp_in_nI (by omega) (by omega), vp_in_nI (by omega) (by omega), nm_e (nm_r (nI_1 j) (ih (j + 1) _ (by omega) ?_ ?_ ?_))⟩
      · intro y hy; rw [pk_un hy]; exact g1 y hy
      · intro q; omega
      · intro q1 q2
        rw [pk_us]
        rcases hP with q | q
        · exact absurd q q1
        · rcases Nat.lt_or_ge (bp k) j with w | w
          · have := q.2.2 j w (by omega); omega
          · rw [show bp k = j by omega]
    · refine br_f (fun q => z (cond.mp q)) (nm_r (nI_1 j) (ih (j + 1) _ (by omega) g1 g2 ?_))
      intro q1 q2
      rcases Nat.lt_or_ge (bp k) j with w | w
      · exact g3 q1 w
      · have e : bp k = j := by omega
        rcases hP with q | q
        · exact absurd q q1
        · have := q.2.1; rw [e] at this; omega
/-- one node of the graft -/
theorem zy_g77 {post : Int32 → SY → Prop} {J : Int32 → Int32 → Int32 → Int32 → Int32 → Int32 → Int32 → Int32 → Int32 → Int32 → Int32 → Int32 → (Nat → Int32) → (Nat → Int32) → (Nat → Int32) → (Nat → Int32) → (Nat → Int32) → (Nat → Int32) → (Nat → Int32) → (Nat → Int32) → (Nat → Int32) → (Nat → Int32) → (Nat → Int32) → (Nat → Int32) → Prop}
    {x3 : Int32} {k : Nat} {bv bl bp : Nat → Nat} (hk : k < m) (hnm : n + m ≤ L) (hL : L ≤ 32) (ha : a ≤ n) (ho : ∀ i, i < n → ord i < 32) (F : zr_F n ord m bno) (hc : ∀ i, i < m → ybcell i = nI (8 * bv i + bl i) ∧ bl i < 8 ∧ bv i ≤ 8) (hP : bv k = 0 ∨ zt_P bv (bp k) k)
    (hO : ∀ i, i < n + k → yord i = nI (zt_in a k ord bno i))
    (h : ∀ A Pa, (∀ i, i < n + (k + 1) → A i = nI (zt_in a (k + 1) ord bno i)) → (∀ y, y ≠ bno k → Pa y = ypar y) → (Pa (bno k) = if bv k = 0 then x3 else nI (bno (bp k))) → J (nI (k + 1)) (nI L) yD yI yB (nI (n + (k + 1))) yfc yfo ypc yrc ybc ylc A Pa (upd ylab (bno k) (nI (bl k))) ycell yit yres ybn ybcell ylist ycur ynext yholds) :
    ∀ d (f : Nat), d ≤ L → (d ≤ bno k → f = bno k) → wY_graft_77 post J x3 (nI a) (nI k) (nI L) yD yI yB (nI (n + k)) yfc yfo ypc yrc ybc ylc yord ypar ylab ycell yit yres ybn ybcell ylist ycur ynext yholds (d + 1) (nI f) (nI d + (-1)) := by
  have bk := zr_Flt F hk
  intro d
  induction d with
  | zero =>
    intro f hd hf
    have ef := hf (Nat.zero_le _)
    subst ef
    refine br_t (show nI 0 + (-1) < 0 by decide) ?_
    rw [nI_add]
    refine zy_putAt (n := n + k) (by omega) (by omega) fun A a1 a2 a3 => ?_
    have ck : (nI k).toNatClampNeg = k := nI_clamp (by omega)
    have cn : (nI (bno k)).toNatClampNeg = bno k := nI_clamp (by omega)
    have vn : vp_in (nI (bno k)) 32 := vp_in_nI (by omega) (by omega)
    obtain ⟨e1, e2, e3⟩ := hc k hk
    have oA : ∀ i, i < n + (k + 1) → A i = nI (zt_in a (k + 1) ord bno i) := by
      intro i hi
      rcases Nat.lt_trichotomy i (a + k) with z | z | z
      · rw [a1 i z, hO i (by omega), zt_inS1 z]
      · rw [z, a2, zt_in2 (by omega)]
      · rw [show i = (i - 1) + 1 by omega, a3 (i - 1) (by omega) (by omega), hO (i - 1) (by omega), zt_inS2 (by omega)]
    refine ⟨vp_in_nI (by omega) (by omega), by decide, vn, nm_r (e' := upd ylab (bno k) (nI (bl k))) ?_ ⟨vn, nm_r (e' := upd ypar (bno k) x3) (by rw [cn]) ⟨k + 1, ?_⟩⟩⟩
    · rw [ck, cn, e1, show nI (8 * bv k + bl k) - nI (8 * bv k + bl k) / 8 * 8 = nI ((8 * bv k + bl k) % 8) from pk_rem (d := 8) (by omega) (by omega) (by omega), show (8 * bv k + bl k) % 8 = bl k by omega]
    · refine zy_g140 (bv := bv) (bl := bl) (bp := bp) (bno := bno) (by omega) (by omega) (by omega) (fun i hi => hc i (by omega)) (fun j hj => ?_) hP ypar x3 (fun Pa p1 p2 => ?_) k 0 _ (by omega) (fun y hy => pk_un hy) (fun _ => pk_us) (fun _ q => absurd q (Nat.not_lt_zero _))
      · rw [oA (a + j) (by omega), zt_in2 (by omega)]
      · exact h A Pa oA p1 p2
  | succ d ih =>
    intro f hd hf
    rw [pk_m1 d]
    refine br_f (nI_pos (by omega)) (zy_rankG (n := n + k) (ord := zt_in a k ord bno) (by omega) hO (fun i hi e => br_t (nI_pos' (by omega)) (nm_e (ih f (by omega) fun q => ?_))) (fun e => br_f (by decide) (nm_e (ih d (by omega) fun q => ?_))))
    · rcases Nat.lt_or_ge d (bno k) with z | z
      · exact hf z
      · exfalso
        have ed : d = bno k := by omega
        subst ed
        -- bno k is free
        have hlt : zt_in a k ord bno i < 32 ∧ zt_in a k ord bno i ≠ bno k := by
          have all : ∀ i, i < n + k → zt_in a k ord bno i < 32 ∧ zt_in a k ord bno i ≠ bno k := zt_c3 a (fun j hj => by rw [zt_in1 hj]; exact ⟨ho j (by omega), (F k hk).1 j (by omega)⟩) (fun j hj => by rw [zt_in2 hj]; exact ⟨by have := zr_Flt F (show j < m by omega); omega, (F k hk).2.1 j hj⟩) (fun j hj hjn => by rw [zt_in3 hj]; exact ⟨ho j hjn, (F k hk).1 j hjn⟩)
          exact all i hi
        exact hlt.2 (((nI_eq (by omega) (by omega)).mp e).symm)
    · rcases Nat.lt_or_ge d (bno k) with z | z
      · exfalso
        apply e
        rcases (F k hk).2.2 d z with ⟨j, hj, ej⟩ | ⟨j, hj, ej⟩
        · rcases Nat.lt_or_ge j a with w | w
          · exact ⟨j, by omega, by rw [zt_in1 w, ej]⟩
          · exact ⟨j + k, by omega, by rw [zt_in3 w, ej]⟩
        · exact ⟨a + j, by omega, by rw [zt_in2 hj, ej]⟩
      · omega
end
section
variable {L D B n m a p : Nat} {ord lev lab sz pr bno bl bv bs bp : Nat → Nat}
theorem zy_g57 {post : Int32 → SY → Prop} (T : zr_T L D B n ord lev lab sz pr) (Pl : zt_pl n lev sz p a) (K : zt_bk m bv bs bp) (hnm : n + m ≤ L) (F : zr_F n ord m bno) (hc : ∀ i, i < m → ybcell i = nI (8 * bv i + bl i) ∧ bl i < 8 ∧ bv i ≤ 8)
    (Y : zr_Y n ord lab pr yord ypar ylab)
    (h : ∀ A Pa La, zr_Y (n + m) (zt_in a m ord bno) (zt_in a m lab bl) (zt_ipr a m p pr bv bp) A Pa La → post (nI (bno 0)) (nI L, yD, yI, yB, nI (n + m), yfc, yfo, ypc, 0, nI m, ylc, A, Pa, La, ycell, yit, yres, ybn, ybcell, ylist, ycur, ynext, yholds)) :
    ∀ d k (A Pa La : Nat → Int32), k + d = m → (∀ i, i < n + k → A i = nI (zt_in a k ord bno i)) → (∀ i, i < n → Pa (ord i) = ypar (ord i)) → (∀ j, j < k → Pa (bno j) = if bv j = 0 then nI (ord p) else nI (bno (bp j))) →
      (∀ i, i < n → La (ord i) = nI (lab i)) → (∀ j, j < k → La (bno j) = nI (bl j)) → wY_graft_57 post (nI (ord p)) (nI a) (d + 1) (nI k) (nI L) yD yI yB (nI (n + k)) yfc yfo ypc yrc (nI m) ylc A Pa La ycell yit yres ybn ybcell ylist ycur ynext yholds := by
  have hb := T.2.1
  have hpa := Pl.2.1
  have han : a ≤ n := by have := (T.1.2.2.2 p Pl.1).1; have := Pl.2.2.1; omega
  have m0 := K.1
  intro d
  induction d with
  | zero =>
    intro k A Pa La hk gA gP gP2 gL gL2
    have e : k = m := by omega
    subst e
    have ca : (nI a).toNatClampNeg = a := nI_clamp (by omega)
    refine br_t (nI_le (Nat.le_refl _) (by omega)) ⟨vp_in_nI (by omega) (by omega), ?_⟩
    have e0 : A a = nI (bno 0) := by
      rw [gA a (by omega)]
      have := zt_in2 (a := a) (f := ord) (g := bno) m0
      rw [Nat.add_zero] at this
      rw [this]
    rw [ca, e0]
    refine h A Pa La ⟨gA, ?_, ?_⟩
    · refine zt_c3 a (fun i hi => ?_) (fun i hi => ?_) (fun i hi hin => ?_)
      · rw [zt_in1 hi, show zt_ipr a k p pr bv bp i = pr i from if_pos hi, gP i (by omega), Y.2.1 i (by show i < n; omega)]
        by_cases z : i = 0
        · rw [if_pos z, if_pos z]
        · have := (T.1.2.2.1 i (by omega) (by omega)).1
          rw [if_neg z, if_neg z, zt_in1 (by omega)]
      · have e : zt_ipr a k p pr bv bp (a + i) = if bv i = 0 then p else a + bp i := by
          unfold zt_ipr; rw [if_neg (by omega), if_pos (by omega), Nat.add_sub_cancel_left]
        rw [zt_in2 hi, gP2 i hi, e, if_neg (show ¬ a + i = 0 by omega)]
        by_cases z : bv i = 0
        · rw [if_pos z, if_pos z, zt_in1 hpa]
        · rw [if_neg z, if_neg z]
          rcases K.2.1 i hi with q | q
          · exact absurd q z
          · have := q.1
            rw [zt_in2 (by omega)]
      · have e : zt_ipr a k p pr bv bp (i + k) = if pr i < a then pr i else pr i + k := by
          unfold zt_ipr; rw [if_neg (by omega), if_neg (by omega), Nat.add_sub_cancel]
        have := (T.1.2.2.1 i (by omega) (by omega)).1
        rw [zt_in3 hi, gP i hin, Y.2.1 i hin, if_neg (by omega), if_neg (by omega), e]
        by_cases z : pr i < a
        · rw [if_pos z, zt_in1 z]
        · rw [if_neg z, zt_in3 (by omega)]
    · refine zt_c3 a (fun i hi => ?_) (fun i hi => ?_) (fun i hi hin => ?_)
      · rw [zt_in1 hi, zt_in1 hi]; exact gL i (by omega)
      · rw [zt_in2 hi, zt_in2 hi]; exact gL2 i hi
      · rw [zt_in3 hi, zt_in3 hi]; exact gL i hin
  | succ d ih =>
    intro k A Pa La hk gA gP gP2 gL gL2
    have hkm : k < m := by omega
    refine br_f (nI_ge (by omega) (by omega)) (nm_r (e' := nI L + (-1)) (Int32.sub_eq_add_neg _ _) ⟨L + 1, ?_⟩)
    refine zy_g77 (bv := bv) (bl := bl) (bp := bp) hkm hnm (by omega) han (fun i hi => by have := (T.2.2.2.1 i hi).1; omega) F hc (K.2.1 k hkm) gA (fun A' Pa' q1 q2 q3 => ?_) L 0 (Nat.le_refl _) (fun q => by have := zr_Flt F hkm; omega)
    refine ih (k + 1) A' Pa' _ (by omega) q1 (fun i hi => ?_) ?_ (fun i hi => ?_) ?_
    · rw [q2 _ ((F k hkm).1 i hi)]; exact gP i hi
    · refine lt_s (fun j hj => ?_) q3
      rw [q2 _ ((F k hkm).2.1 j hj)]; exact gP2 j hj
    · rw [pk_un ((F k hkm).1 i hi)]; exact gL i hi
    · refine lt_s (fun j hj => ?_) pk_us
      rw [pk_un ((F k hkm).2.1 j hj)]; exact gL2 j hj
theorem zy_graft0 {post : Int32 → SY → Prop} {t md : Nat} (T : zr_T L D B n ord lev lab sz pr) (P : zr_P (· < n) ord pr ypar) (ht : t < n) (hmd : md < 4) (h2 : 2 ≤ md → 0 < t) (hp : p = zr_pp pr md t) (h : wY_graft_15 post (nI (ord t)) (nI md) (nI (ord p)) yL yD yI yB yn yfc yfo ypc yrc ybc ylc yord ypar ylab ycell yit yres ybn ybcell ylist ycur ynext yholds) : wpY_graft post (yL, yD, yI, yB, yn, yfc, yfo, ypc, yrc, ybc, ylc, yord, ypar, ylab, ycell, yit, yres, ybn, ybcell, ylist, ycur, ynext, yholds) (nI (ord t)) (nI md) := by
  have hb := T.2.1
  have a2 := T.2.2.2.1 t ht
  unfold wpY_graft
  unfold zr_pp at hp
  by_cases z : md < 2
  · refine br_f (nI_ge (b := 2) z (by decide)) ?_
    rw [if_pos z] at hp
    rw [hp] at h
    exact h
  · refine br_t (nI_le (a := 2) (by omega) (by omega)) ⟨vp_in_nI (by omega) (by omega), ?_⟩
    rw [if_neg z] at hp
    have c : (nI (ord t)).toNatClampNeg = ord t := nI_clamp (by omega)
    have t0 := h2 (by omega)
    rw [c, P t ht, if_neg (by omega), ← hp]
    exact h
theorem zy_graftF {post : Int32 → SY → Prop} {t md : Nat} (T : zr_T L D B n ord lev lab sz pr) (P : zr_P (· < n) ord pr ypar) (ht : t < n) (hmd : md < 4) (h2 : 2 ≤ md → 0 < t) (hm : m ≤ 32) (hf : L < n + m)
    (h : post (-6) (nI L, yD, yI, yB, nI n, yfc, yfo, ypc, yrc, nI m, ylc, yord, ypar, ylab, ycell, yit, yres, ybn, ybcell, ylist, ycur, ynext, yholds)) : wpY_graft post (nI L, yD, yI, yB, nI n, yfc, yfo, ypc, yrc, nI m, ylc, yord, ypar, ylab, ycell, yit, yres, ybn, ybcell, ylist, ycur, ynext, yholds) (nI (ord t)) (nI md) := by
  have hb := T.2.1
  refine zy_graft0 T P ht hmd h2 rfl ?_
  unfold wY_graft_15
  refine br_f ?_ h
  rw [nI_add]
  exact nI_ge hf (by omega)
theorem zy_graftD {post : Int32 → SY → Prop} {t md : Nat} (T : zr_T L D B n ord lev lab sz pr) (P : zr_P (· < n) ord pr ypar) (ht : t < n) (hmd : md < 4) (h2 : 2 ≤ md → 0 < t) (hp : p = zr_pp pr md t) (hm : m ≤ 32) (hf : n + m ≤ L) (hc : ∀ i, i < m → ybcell i = nI (8 * bv i + bl i) ∧ bl i < 8 ∧ bv i ≤ 8)
    (hd : ∃ i, i < m ∧ D < lev p + 1 + bv i) (h : post (-7) (nI L, nI D, yI, yB, nI n, yfc, yfo, ypc, yrc, nI m, ylc, yord, ypar, ylab, ycell, yit, yres, ybn, ybcell, ylist, ycur, ynext, yholds)) : wpY_graft post (nI L, nI D, yI, yB, nI n, yfc, yfo, ypc, yrc, nI m, ylc, yord, ypar, ylab, ycell, yit, yres, ybn, ybcell, ylist, ycur, ynext, yholds) (nI (ord t)) (nI md) := by
  have hb := T.2.1
  have Pl := zr_place T.1 ht hmd h2
  rw [← hp] at Pl
  refine zy_graft0 T P ht hmd h2 hp ?_
  unfold wY_graft_15
  refine br_t (by rw [nI_add]; exact nI_le hf (by omega)) (zy_tooDeep T P Pl.1 hm hc (fun q => ?_) (fun _ => br_f (by decide) h))
  obtain ⟨i, hi, z⟩ := hd
  have := q i hi
  omega
theorem zy_graftS {post : Int32 → SY → Prop} {t md : Nat} (T : zr_T L D B n ord lev lab sz pr) (Y : zr_Y n ord lab pr yord ypar ylab) (ht : t < n) (hmd : md < 4) (h2 : 2 ≤ md → 0 < t) (hp : p = zr_pp pr md t) (ha : a = zr_at sz md t) (K : zt_bk m bv bs bp) (hf : n + m ≤ L) (F : zr_F n ord m bno) (hc : ∀ i, i < m → ybcell i = nI (8 * bv i + bl i) ∧ bl i < 8 ∧ bv i ≤ 8)
    (hd : ∀ i, i < m → lev p + 1 + bv i ≤ D)
    (h : ∀ A Pa La, zr_Y (n + m) (zt_in a m ord bno) (zt_in a m lab bl) (zt_ipr a m p pr bv bp) A Pa La → post (nI (bno 0)) (nI L, nI D, yI, yB, nI (n + m), yfc, yfo, ypc, 0, nI m, ylc, A, Pa, La, ycell, yit, yres, ybn, ybcell, ylist, ycur, ynext, yholds)) :
    wpY_graft post (nI L, nI D, yI, yB, nI n, yfc, yfo, ypc, yrc, nI m, ylc, yord, ypar, ylab, ycell, yit, yres, ybn, ybcell, ylist, ycur, ynext, yholds) (nI (ord t)) (nI md) := by
  have hb := T.2.1
  have Pl := zr_place T.1 ht hmd h2
  rw [← hp, ← ha] at Pl
  refine zy_graft0 T Y.2.1 ht hmd h2 hp ?_
  unfold wY_graft_15
  refine br_t (by rw [nI_add]; exact nI_le hf (by omega)) (zy_tooDeep T Y.2.1 Pl.1 (by omega) hc (fun _ => br_t rfl (zy_placeRank T Y.1 Y.2.1 ht hmd ⟨m + 1, ?_⟩)) (fun ⟨i, hi, q⟩ => by have := hd i hi; omega))
  rw [← ha]
  exact zy_g57 T Pl K hf F hc Y h m 0 _ _ _ (by omega) (fun i hi => by
    rw [Y.1 i hi]
    unfold zt_in
    by_cases z : i < a
    · rw [if_pos z]
    · rw [if_neg z, if_neg (by omega)]; rfl) (fun i hi => rfl) (fun j hj => absurd hj (Nat.not_lt_zero j)) (fun i hi => Y.2.2 i hi) (fun j hj => absurd hj (Nat.not_lt_zero j))
/-- the buffered subtree put back at a place (move) -/
theorem zy_m98 {post : Int32 → SY → Prop} {x4 : Int32} {no : Nat} (hnm : n + m ≤ 32) (ha : a ≤ n) (m0 : 0 < m) (hno : no < 32) (hB : ∀ i, i < m → ybn i = nI (bno i))
    (h : ∀ A, (∀ i, i < n + m → A i = nI (zt_in a m ord bno i)) → post (nI a) (yL, yD, yI, yB, nI (n + m), yfc, yfo, ypc, yrc, nI m, ylc, A, upd ypar no x4, ylab, ycell, yit, yres, ybn, ybcell, ylist, ycur, ynext, yholds)) :
    ∀ d k (A : Nat → Int32), k + d = m → (∀ i, i < n + k → A i = nI (zt_in a k ord bno i)) → wY_move_98 post (nI no) x4 (nI a) (d + 1) (nI k) yL yD yI yB (nI (n + k)) yfc yfo ypc yrc (nI m) ylc A ypar ylab ycell yit yres ybn ybcell ylist ycur ynext yholds := by
  intro d
  induction d with
  | zero =>
    intro k A hk gA
    have e : k = m := by omega
    subst e
    have cn : (nI no).toNatClampNeg = no := nI_clamp (by omega)
    refine br_t (nI_le (Nat.le_refl _) (by omega)) ⟨vp_in_nI (by omega) (by omega), nm_r (e' := upd ypar no x4) (by rw [cn]) (h A gA)⟩
  | succ d ih =>
    intro k A hk gA
    have ck : (nI k).toNatClampNeg = k := nI_clamp (by omega)
    refine br_f (nI_ge (by omega) (by omega)) ⟨vp_in_nI (by omega) (by omega), ?_⟩
    rw [ck, hB k (by omega), nI_add]
    refine zy_putAt (n := n + k) (by omega) (by omega) fun A' a1 a2 a3 => nm_r (nI_1 k) (ih (k + 1) A' (by omega) fun i hi => ?_)
    rcases Nat.lt_trichotomy i (a + k) with z | z | z
    · rw [a1 i z, gA i (by omega), zt_inS1 z]
    · rw [z, a2, zt_in2 (by omega)]
    · rw [show i = (i - 1) + 1 by omega, a3 (i - 1) (by omega) (by omega), gA (i - 1) (by omega), zt_inS2 (by omega)]
end
end
end
section
/-! ===== evaluation, the pure side ===== -/
def zb_mk (P : Nat → Bool) : Nat → Int32
  | 0 => 0
  | k + 1 => if P k = true then zb_mk P k ||| zb_1 k else zb_mk P k
theorem zb_mkb (P : Nat → Bool) : ∀ {k : Nat}, k ≤ 32 → ∀ {i : Nat}, i < 32 → (bt (zb_mk P k) i = true ↔ i < k ∧ P i = true)
  | 0, _, i, hi => by
    show bt 0 i = true ↔ _
    rw [b_0]
    constructor
    · intro h; exact absurd h (by decide)
    · rintro ⟨h, -⟩; omega
  | k + 1, hk, i, hi => by
    have ih := zb_mkb P (show k ≤ 32 by omega) hi
    unfold zb_mk
    by_cases c : P k = true
    · rw [if_pos c, b_or, zb_1b (by omega) hi, Bool.or_eq_true, ih, decide_eq_true_eq]
      constructor
      · rintro (⟨h1, h2⟩ | h)
        · exact ⟨by omega, h2⟩
        · rw [h]; exact ⟨by omega, c⟩
      · rintro ⟨h1, h2⟩
        by_cases z : i = k
        · exact Or.inr z
        · exact Or.inl ⟨by omega, h2⟩
    · rw [if_neg c, ih]
      constructor
      · rintro ⟨h1, h2⟩; exact ⟨by omega, h2⟩
      · rintro ⟨h1, h2⟩
        refine ⟨?_, h2⟩
        rcases Nat.lt_or_ge i k with z | z
        · exact z
        · have : i = k := by omega
          rw [this] at h2; exact absurd h2 c
/-- two masks with the same bits -/
theorem zb_eq {x y : Int32} (h : ∀ i, i < 32 → (bt x i = true ↔ bt y i = true)) : x = y := b_ext fun i hi => zb_iff (h i hi)
def zp_bel (sz pr : Nat → Nat) (ax x y : Nat) : Bool :=
  if ax = 0 then decide (y = x) else if ax = 1 then decide (0 < y ∧ pr y = x) else if ax = 2 then decide (x < y ∧ y ≤ x + sz x) else if ax = 3 then decide (x ≤ y ∧ y ≤ x + sz x)
  else if ax = 4 then decide (0 < x ∧ pr x = y) else if ax = 5 then decide (y < x ∧ x ≤ y + sz y) else if ax = 6 then decide (y ≤ x ∧ x ≤ y + sz y) else if ax = 7 then decide (x + sz x < y)
  else if ax = 8 then decide (y + sz y < x) else if ax = 9 then decide (0 < x ∧ 0 < y ∧ pr x = pr y ∧ x < y) else decide (0 < x ∧ 0 < y ∧ pr x = pr y ∧ y < x)
def zp_rev (ax : Nat) : Bool := decide ((4 ≤ ax ∧ ax ≤ 6) ∨ ax = 8 ∨ ax = 10)
def zp_ax (c : Nat) : Nat := (c - 100) / 10
def zp_w (c : Nat) : Nat := (c - 100) % 10
def zp_m0 (n : Nat) (lab sz pr : Nat → Nat) (c x : Nat) : Int32 := zb_mk (fun y => zp_bel sz pr (zp_ax c) x y && (zp_w c == 0 || lab y + 1 == zp_w c)) n
def zp_dl (back : Bool) (M : Int32) : List Nat := if back = true then (zb_ls M).reverse else zb_ls M
def zp_ix (t c : Nat) : Nat := if 400 < c then c - 401 else if 400 - c ≤ t then t - (400 - c) else t
def zp_pick (back : Bool) (M : Int32) (c : Nat) : Int32 := if h : zp_ix (zb_ls M).length c < (zp_dl back M).length then zb_1 (zp_dl back M)[zp_ix (zb_ls M).length c] else 0
theorem zp_dlen (back : Bool) (M : Int32) : (zp_dl back M).length = (zb_ls M).length := by
  unfold zp_dl
  cases back
  · rfl
  · exact List.length_reverse
theorem zp_dmem {back : Bool} {M : Int32} {i : Nat} : i ∈ zp_dl back M ↔ bt M i = true := by
  unfold zp_dl
  cases back
  · exact zb_mem'
  · rw [if_pos rfl, List.mem_reverse]; exact zb_mem'
theorem zp_d32 {back : Bool} {M : Int32} {i : Nat} (h : i ∈ zp_dl back M) : i < 32 := (zb_mem.mp (zb_mem'.mpr (zp_dmem.mp h))).1
theorem zb_ls0 : zb_ls 0 = [] := zb_nil.mpr rfl
theorem zb_ls1 {r : Nat} (h : r < 32) : zb_ls (zb_1 r) = [r] := by
  refine zb_uniq (zb_srt _) (List.pairwise_singleton _ _) fun i => ?_
  rw [zb_mem, List.mem_singleton]
  constructor
  · rintro ⟨h1, h2⟩; rw [zb_1b h h1] at h2; exact of_decide_eq_true h2
  · rintro rfl; exact ⟨h, by rw [zb_1b h h]; exact decide_eq_true rfl⟩
theorem zp_dl0 (back : Bool) : zp_dl back 0 = [] := by unfold zp_dl; rw [zb_ls0]; cases back <;> rfl
theorem zp_dl1 (back : Bool) {r : Nat} (h : r < 32) : zp_dl back (zb_1 r) = [r] := by unfold zp_dl; rw [zb_ls1 h]; cases back <;> rfl
theorem zp_dlp {back : Bool} {M : Int32} {c : Nat} (h : zp_ix (zb_ls M).length c < (zp_dl back M).length) : zp_dl back (zp_pick back M c) = [(zp_dl back M)[zp_ix (zb_ls M).length c]] := by
  unfold zp_pick; rw [dif_pos h]; exact zp_dl1 back (zp_d32 (List.getElem_mem h))
theorem zp_dlp0 {back : Bool} {M : Int32} {c : Nat} (h : ¬ zp_ix (zb_ls M).length c < (zp_dl back M).length) : zp_dl back (zp_pick back M c) = [] := by
  unfold zp_pick; rw [dif_neg h]; exact zp_dl0 back
theorem zb_lsa (M S : Int32) : zb_ls (M &&& S) = (zb_ls M).filter (fun i => bt S i) := by
  unfold zb_ls
  rw [List.filter_filter]
  refine List.filter_congr fun i _ => ?_
  rw [b_and, Bool.and_comm]
theorem zp_dla (back : Bool) (M S : Int32) : zp_dl back (M &&& S) = (zp_dl back M).filter (fun i => bt S i) := by
  unfold zp_dl
  rw [zb_lsa]
  cases back
  · rfl
  · rw [if_pos rfl, if_pos rfl, List.filter_reverse]
theorem zp_pick0 (back : Bool) (c : Nat) : zp_pick back 0 c = 0 := by
  unfold zp_pick; rw [dif_neg]; rw [zp_dl0]; exact Nat.not_lt_zero _
/-- the predicates behind a step -/
def zp_fl (q : Nat) (code nest : Nat → Nat) (S : Nat → Int32) (back : Bool) (ns : Nat) : Nat → Nat → Int32 → Int32
  | 0, _, M => M
  | f + 1, j, M => if q ≤ j then M else if nest j < ns then M else if nest j = ns then (if code j < 300 then M else if code j < 500 then zp_fl q code nest S back ns f (j + 1) (zp_pick back M (code j)) else if code j < 600 then zp_fl q code nest S back ns f (j + 1) (M &&& S j) else zp_fl q code nest S back ns f (j + 1) M) else zp_fl q code nest S back ns f (j + 1) M
section
variable {q ns : Nat} {code nest : Nat → Nat} {S S' : Nat → Int32} {back : Bool}
theorem zp_fl0 : ∀ f j, zp_fl q code nest S back ns f j 0 = 0
  | 0, _ => rfl
  | f + 1, j => by
    have e : ∀ z : Int32, (0 : Int32) &&& z = 0 := fun z => b_ext fun i _ => by rw [b_and, b_0, Bool.false_and]
    unfold zp_fl
    rw [zp_pick0, e]
    simp only [zp_fl0 f (j + 1), ite_self]
theorem zp_flc {c : Nat} (hc : nest c < ns) (hcq : c < q) : ∀ f j (M : Int32), j ≤ c → (∀ k, j ≤ k → k < c → S k = S' k) → zp_fl q code nest S back ns f j M = zp_fl q code nest S' back ns f j M
  | 0, _, _, _, _ => rfl
  | f + 1, j, M, hj, h => by
    unfold zp_fl
    rcases Nat.eq_or_lt_of_le hj with z | z
    · subst z; rw [if_neg (by omega), if_pos hc, if_neg (by omega), if_pos hc]
    · have ih := fun M => zp_flc hc hcq f (j + 1) M (by omega) (fun k k1 k2 => h k (by omega) k2)
      rw [h j (Nat.le_refl _) z]
      simp only [ih]
/-- a mask that is kept stays within -/
theorem zp_flsub : ∀ f j (M : Int32) i, bt (zp_fl q code nest S back ns f j M) i = true → bt M i = true
  | 0, _, _, _, h => h
  | f + 1, j, M, i, h => by
    have ih := fun M' => zp_flsub f (j + 1) M' i
    have pk : bt (zp_pick back M (code j)) i = true → bt M i = true := by
      intro hp
      unfold zp_pick at hp
      by_cases c : zp_ix (zb_ls M).length (code j) < (zp_dl back M).length
      · rw [dif_pos c] at hp
        have hi : i < 32 := (zb_mem.mp (zb_mem'.mpr hp)).1
        have hr := List.getElem_mem c
        rw [zb_1b (zp_d32 hr) hi] at hp
        rw [of_decide_eq_true hp]
        exact zp_dmem.mp hr
      · rw [dif_neg c, b_0] at hp; exact absurd hp (by decide)
    have an : bt (M &&& S j) i = true → bt M i = true := by
      intro hp; rw [b_and, Bool.and_eq_true] at hp; exact hp.1
    unfold zp_fl at h
    by_cases c1 : q ≤ j
    · rw [if_pos c1] at h; exact h
    · rw [if_neg c1] at h
      by_cases c2 : nest j < ns
      · rw [if_pos c2] at h; exact h
      · rw [if_neg c2] at h
        by_cases c3 : nest j = ns
        · rw [if_pos c3] at h
          by_cases c4 : code j < 300
          · rw [if_pos c4] at h; exact h
          · rw [if_neg c4] at h
            by_cases c5 : code j < 500
            · rw [if_pos c5] at h; exact pk (ih _ h)
            · rw [if_neg c5] at h
              by_cases c6 : code j < 600
              · rw [if_pos c6] at h; exact an (ih _ h)
              · rw [if_neg c6] at h; exact ih _ h
        · rw [if_neg c3] at h; exact ih _ h
end
/-- the value of the stage whose step is item i, from rank x -/
def zp_sv (n q : Nat) (lab sz pr code nest : Nat → Nat) (S : Nat → Int32) (i x : Nat) : Int32 := zp_fl q code nest S (zp_rev (zp_ax (code i))) (nest i) q (i + 1) (zp_m0 n lab sz pr (code i) x)
def zp_sf (v : Nat → Int32) (C : Int32) : Nat → Int32
  | 0 => 0
  | k + 1 => if bt C k = true then zp_sf v C k ||| v k else zp_sf v C k
def zp_ss (v : Nat → Int32) (G : Int32) : Nat → Int32
  | 0 => 0
  | k + 1 => if v k &&& G = 0 then zp_ss v G k else zp_ss v G k ||| zb_1 k
theorem zp_sfb {v : Nat → Int32} {C : Int32} : ∀ {k i : Nat}, bt (zp_sf v C k) i = true ↔ ∃ x, x < k ∧ bt C x = true ∧ bt (v x) i = true
  | 0, i => by
    show bt 0 i = true ↔ _
    rw [b_0]
    exact ⟨fun h => absurd h (by decide), fun ⟨x, h, _⟩ => absurd h (Nat.not_lt_zero x)⟩
  | k + 1, i => by
    have ih := zp_sfb (v := v) (C := C) (k := k) (i := i)
    unfold zp_sf
    by_cases c : bt C k = true
    · rw [if_pos c, b_or, Bool.or_eq_true, ih]
      constructor
      · rintro (⟨x, h1, h2⟩ | h)
        · exact ⟨x, by omega, h2⟩
        · exact ⟨k, by omega, c, h⟩
      · rintro ⟨x, h1, h2, h3⟩
        by_cases z : x = k
        · subst z; exact Or.inr h3
        · exact Or.inl ⟨x, by omega, h2, h3⟩
    · rw [if_neg c, ih]
      constructor
      · rintro ⟨x, h1, h2⟩; exact ⟨x, by omega, h2⟩
      · rintro ⟨x, h1, h2, h3⟩
        refine ⟨x, ?_, h2, h3⟩
        rcases Nat.lt_or_ge x k with z | z
        · exact z
        · have : x = k := by omega
          rw [this] at h2; exact absurd h2 c
theorem zp_ssb {v : Nat → Int32} {G : Int32} : ∀ {k : Nat}, k ≤ 32 → ∀ {i : Nat}, i < 32 → (bt (zp_ss v G k) i = true ↔ i < k ∧ ¬ v i &&& G = 0)
  | 0, _, i, _ => by
    show bt 0 i = true ↔ _
    rw [b_0]
    exact ⟨fun h => absurd h (by decide), fun h => absurd h.1 (Nat.not_lt_zero i)⟩
  | k + 1, hk, i, hi => by
    have ih := zp_ssb (v := v) (G := G) (k := k) (by omega) hi
    unfold zp_ss
    by_cases c : v k &&& G = 0
    · rw [if_pos c, ih]
      constructor
      · rintro ⟨h1, h2⟩; exact ⟨by omega, h2⟩
      · rintro ⟨h1, h2⟩
        refine ⟨?_, h2⟩
        rcases Nat.lt_or_ge i k with z | z
        · exact z
        · have : i = k := by omega
          rw [this] at h2; exact absurd c h2
    · rw [if_neg c, b_or, zb_1b (by omega) hi, Bool.or_eq_true, ih, decide_eq_true_eq]
      constructor
      · rintro (⟨h1, h2⟩ | h)
        · exact ⟨by omega, h2⟩
        · rw [h]; exact ⟨by omega, c⟩
      · rintro ⟨h1, h2⟩
        by_cases z : i = k
        · exact Or.inr z
        · exact Or.inl ⟨by omega, h2⟩
theorem zb_meet {A G : Int32} : ¬ A &&& G = 0 ↔ ∃ i, i < 32 ∧ bt A i = true ∧ bt G i = true := by
  constructor
  · intro h
    obtain ⟨i, hi, e⟩ := zb_ex h
    rw [b_and, Bool.and_eq_true] at e
    exact ⟨i, hi, e⟩
  · rintro ⟨i, hi, e1, e2⟩ h
    have := zb_ne.mp h i hi
    rw [b_and, e1, e2] at this
    exact absurd this (by decide)
theorem zp_dual {v : Nat → Int32} {C G : Int32} {n : Nat} (hn : n ≤ 32) : ¬ zp_sf v C n &&& G = 0 ↔ ¬ C &&& zp_ss v G n = 0 := by
  rw [zb_meet, zb_meet]
  constructor
  · rintro ⟨i, hi, e1, e2⟩
    obtain ⟨x, h1, h2, h3⟩ := zp_sfb.mp e1
    exact ⟨x, by omega, h2, (zp_ssb hn (by omega)).mpr ⟨h1, zb_meet.mpr ⟨i, hi, h3, e2⟩⟩⟩
  · rintro ⟨x, hx, e1, e2⟩
    obtain ⟨h1, h2⟩ := (zp_ssb hn hx).mp e2
    obtain ⟨i, hi, e3, e4⟩ := zb_meet.mp h2
    exact ⟨i, hi, zp_sfb.mpr ⟨x, h1, e1, e3⟩, e4⟩
theorem zp_ss0 {v : Nat → Int32} : ∀ k, zp_ss v 0 k = 0
  | 0 => rfl
  | k + 1 => by
    unfold zp_ss
    rw [if_pos (b_ext fun i _ => by rw [b_and, b_0, Bool.and_false]), zp_ss0 k]
def zp_fw (F : Nat → Int32 → Int32) (lo : Nat) : Nat → Int32 → Int32
  | 0, C => C
  | d + 1, C => F (lo + d) (zp_fw F lo d C)
def zp_bw (F : Nat → Int32 → Int32) (hi : Nat) : Nat → Int32 → Int32
  | 0, G => G
  | d + 1, G => F (hi - (d + 1)) (zp_bw F hi d G)
theorem zp_bwS (F : Nat → Int32 → Int32) (hi : Nat) : ∀ d G, zp_bw F (hi + 1) (d + 1) G = zp_bw F hi d (F hi G)
  | 0, G => rfl
  | d + 1, G => by
    show F (hi + 1 - (d + 1 + 1)) (zp_bw F (hi + 1) (d + 1) G) = F (hi - (d + 1)) (zp_bw F hi d (F hi G))
    rw [zp_bwS F hi d G, show hi + 1 - (d + 1 + 1) = hi - (d + 1) by omega]
theorem zp_duals {F Bf : Nat → Int32 → Int32} (h : ∀ i C G, ¬ F i C &&& G = 0 ↔ ¬ C &&& Bf i G = 0) (lo : Nat) : ∀ d C G, ¬ zp_fw F lo d C &&& G = 0 ↔ ¬ C &&& zp_bw Bf (lo + d) d G = 0
  | 0, C, G => Iff.rfl
  | d + 1, C, G => by
    show ¬ F (lo + d) (zp_fw F lo d C) &&& G = 0 ↔ ¬ C &&& zp_bw Bf (lo + d + 1) (d + 1) G = 0
    rw [h, zp_duals h lo d C, zp_bwS]
/-- what the step items of one nesting do to a set, forwards and backwards -/
def zp_F (n q : Nat) (lab sz pr code nest : Nat → Nat) (S : Nat → Int32) (lv i : Nat) (C : Int32) : Int32 := if nest i = lv ∧ code i < 300 then zp_sf (zp_sv n q lab sz pr code nest S i) C n else C
def zp_B (n q : Nat) (lab sz pr code nest : Nat → Nat) (S : Nat → Int32) (lv i : Nat) (G : Int32) : Int32 := if nest i = lv ∧ code i < 300 then zp_ss (zp_sv n q lab sz pr code nest S i) G n else G
theorem zp_FB {n q : Nat} {lab sz pr code nest : Nat → Nat} {S : Nat → Int32} {lv : Nat} (hn : n ≤ 32) (i : Nat) (C G : Int32) : ¬ zp_F n q lab sz pr code nest S lv i C &&& G = 0 ↔ ¬ C &&& zp_B n q lab sz pr code nest S lv i G = 0 := by
  unfold zp_F zp_B
  by_cases c : nest i = lv ∧ code i < 300
  · rw [if_pos c, if_pos c]; exact zp_dual hn
  · rw [if_neg c, if_neg c]
/-- the ranks from which the inner path between o and c has a value -/
def zp_found (n q : Nat) (lab sz pr code nest : Nat → Nat) (S : Nat → Int32) (o c : Nat) : Int32 := zp_bw (zp_B n q lab sz pr code nest S (nest c + 1)) c (c - 1 - o) (zb_lo n)
def zp_val (n q : Nat) (lab sz pr code nest : Nat → Nat) (S : Nat → Int32) (o c : Nat) : Int32 := if code o = 501 then zp_found n q lab sz pr code nest S o c else zb_lo n &&& (zp_found n q lab sz pr code nest S o c ^^^ (-1))
theorem zp_bwc {F F' : Nat → Int32 → Int32} {hi lo : Nat} (h : ∀ i G, lo < i → i < hi → F i G = F' i G) : ∀ d G, d + lo < hi → zp_bw F hi d G = zp_bw F' hi d G
  | 0, _, _ => rfl
  | d + 1, G, hd => by
    show F (hi - (d + 1)) (zp_bw F hi d G) = F' (hi - (d + 1)) (zp_bw F' hi d G)
    rw [zp_bwc h d G (by omega), h _ _ (by omega) (by omega)]
theorem zp_valc {n q : Nat} {lab sz pr code nest : Nat → Nat} {S S' : Nat → Int32} {o c : Nat} (hoc : o < c) (hcq : c < q) (h : ∀ k, o < k → k < c → S k = S' k) : zp_val n q lab sz pr code nest S o c = zp_val n q lab sz pr code nest S' o c := by
  have e : zp_found n q lab sz pr code nest S o c = zp_found n q lab sz pr code nest S' o c := by
    unfold zp_found
    refine zp_bwc (lo := o) (fun i G h1 h2 => ?_) _ _ (by omega)
    unfold zp_B
    by_cases z : nest i = nest c + 1 ∧ code i < 300
    · rw [if_pos z, if_pos z]
      have : zp_sv n q lab sz pr code nest S i = zp_sv n q lab sz pr code nest S' i := by
        funext x
        unfold zp_sv
        exact zp_flc (c := c) (by omega) hcq _ _ _ (by omega) (fun k k1 k2 => h k (by omega) k2)
      rw [this]
    · rw [if_neg z, if_neg z]
  unfold zp_val
  rw [e]
end
section
/-! ===== X's evaluation ===== -/
def zp_b (b : Bool) : Int32 := if b = true then 1 else 0
def zp_cok (B c : Nat) : Prop := (100 ≤ c ∧ c < 300 ∧ (c - 100) / 10 ≤ 10 ∧ (c - 100) % 10 ≤ B) ∨ (368 ≤ c ∧ c ≤ 432 ∧ c ≠ 400) ∨ c = 500 ∨ c = 501 ∨ c = 600
def zp_path (B q : Nat) (code nest mate nd : Nat → Nat) : Prop :=
  (∀ j, j < q → zp_cok B (code j) ∧ nest j ≤ 3) ∧ nd 0 = 0 ∧ (∀ j, j < q → nd j = nest j + (if code j = 600 then 1 else 0) ∧ nd (j + 1) = nest j + (if code j = 500 ∨ code j = 501 then 1 else 0)) ∧
  (∀ c, c < q → code c = 600 → mate c < c ∧ (code (mate c) = 500 ∨ code (mate c) = 501) ∧ nest (mate c) = nest c ∧ ∀ k, mate c < k → k < c → nest c < nest k)
def zr_Q (q : Nat) (code nest mate : Nat → Nat) (xpc xpn xpm : Nat → Int32) : Prop := ∀ j, j < q → xpc j = nI (code j) ∧ xpn j = nI (nest j) ∧ (code j = 600 → xpm j = nI (mate j))
theorem zp_c1000 {B c : Nat} (h : zp_cok B c) : c < 1000 := by unfold zp_cok at h; omega
section
variable {xL xD xI xB xn xu xbl xfl xfo xfh xpl xpo xrm xrc : Int32} {xord xrk xpar xlab xlev xsz xlm xvm xbn xbb xbv xbs xlin xgl xgv xgs xgst xpc xpn xpm xoa xsat : Nat → Int32}
theorem zx_isReverse {post : Int32 → Prop} {ax : Nat} (ha : ax ≤ 10) (h : post (zp_b (zp_rev ax))) : wpX_isReverse post (xL, xD, xI, xB, xn, xu, xbl, xfl, xfo, xfh, xpl, xpo, xrm, xrc, xord, xrk, xpar, xlab, xlev, xsz, xlm, xvm, xbn, xbb, xbv, xbs, xlin, xgl, xgv, xgs, xgst, xpc, xpn, xpm, xoa, xsat) (nI ax) := by
  have one : ((4 ≤ ax ∧ ax ≤ 6) ∨ ax = 8 ∨ ax = 10) → post 1 := fun z => by
    have e : zp_rev ax = true := decide_eq_true z
    rw [e] at h; exact h
  have zero : ¬ ((4 ≤ ax ∧ ax ≤ 6) ∨ ax = 8 ∨ ax = 10) → post 0 := fun z => by
    have e : zp_rev ax = false := decide_eq_false z
    rw [e] at h; exact h
  have r11 : ¬ (4 ≤ ax ∧ ax ≤ 6) → wX_isReverse_11 post (nI ax) xL xD xI xB xn xu xbl xfl xfo xfh xpl xpo xrm xrc xord xrk xpar xlab xlev xsz xlm xvm xbn xbb xbv xbs xlin xgl xgv xgs xgst xpc xpn xpm xoa xsat := by
    intro z
    unfold wX_isReverse_11
    exact pk_eq ax 8 (fun q => one (by omega)) (fun q => pk_eq ax 10 (fun q2 => one (by omega)) (fun q2 => zero (by omega)))
  unfold wpX_isReverse
  exact pk_lt ax 4 (fun q => r11 (by omega)) (fun q => pk_le ax 6 (fun q2 => one (by omega)) (fun q2 => r11 (by omega)))
theorem zx_isStep {post : Int32 → Prop} {c : Nat} (hc : c < 1000) (h1 : c < 300 → post 1) (h0 : 300 ≤ c → post 0) : wpX_isStep post (xL, xD, xI, xB, xn, xu, xbl, xfl, xfo, xfh, xpl, xpo, xrm, xrc, xord, xrk, xpar, xlab, xlev, xsz, xlm, xvm, xbn, xbb, xbv, xbs, xlin, xgl, xgv, xgs, xgst, xpc, xpn, xpm, xoa, xsat) (nI c) := by
  unfold wpX_isStep
  exact pk_le 300 c h0 h1
theorem zx_isPosition {post : Int32 → Prop} {c : Nat} (hc : c < 1000) (h1 : 300 ≤ c → c < 500 → post 1) (h0 : c < 300 ∨ 500 ≤ c → post 0) : wpX_isPosition post (xL, xD, xI, xB, xn, xu, xbl, xfl, xfo, xfh, xpl, xpo, xrm, xrc, xord, xrk, xpar, xlab, xlev, xsz, xlm, xvm, xbn, xbb, xbv, xbs, xlin, xgl, xgv, xgs, xgst, xpc, xpn, xpm, xoa, xsat) (nI c) := by
  unfold wpX_isPosition
  exact pk_lt c 300 (fun z => h0 (Or.inl z)) (fun z => pk_le 500 c (fun y => h0 (Or.inr y)) (fun y => h1 z y))
theorem zx_isOpening {post : Int32 → Prop} {c : Nat} (hc : c < 1000) (h1 : c = 500 ∨ c = 501 → post 1) (h0 : ¬ (c = 500 ∨ c = 501) → post 0) : wpX_isOpening post (xL, xD, xI, xB, xn, xu, xbl, xfl, xfo, xfh, xpl, xpo, xrm, xrc, xord, xrk, xpar, xlab, xlev, xsz, xlm, xvm, xbn, xbb, xbv, xbs, xlin, xgl, xgv, xgs, xgst, xpc, xpn, xpm, xoa, xsat) (nI c) := by
  unfold wpX_isOpening
  exact pk_eq c 500 (fun z => h1 (Or.inl z)) (fun z => pk_eq c 501 (fun y => h1 (Or.inr y)) (fun y => h0 (by omega)))
theorem zx_isClosing {post : Int32 → Prop} {c : Nat} (hc : c < 1000) (h1 : c = 600 → post 1) (h0 : c ≠ 600 → post 0) : wpX_isClosing post (xL, xD, xI, xB, xn, xu, xbl, xfl, xfo, xfh, xpl, xpo, xrm, xrc, xord, xrk, xpar, xlab, xlev, xsz, xlm, xvm, xbn, xbb, xbv, xbs, xlin, xgl, xgv, xgs, xgst, xpc, xpn, xpm, xoa, xsat) (nI c) := by
  unfold wpX_isClosing
  exact pk_eq c 600 h1 h0
theorem zx_p36 {post : Int32 → Prop} {M x5 : Int32} {t : Nat} (ht : t = (zb_ls M).length) (h : (∃ k, ∃ hk : k < (zb_ls M).length, x5 = nI k ∧ post (zb_1 (zb_ls M)[k])) ∨ ((x5 < 0 ∨ ∃ z, t ≤ z ∧ z < 1000 ∧ x5 = nI z) ∧ post 0)) : wX_pick_36 post M (nI t) x5 xL xD xI xB xn xu xbl xfl xfo xfh xpl xpo xrm xrc xord xrk xpar xlab xlev xsz xlm xvm xbn xbb xbv xbs xlin xgl xgv xgs xgst xpc xpn xpm xoa xsat := by
  have hl := zb_len M
  unfold wX_pick_36
  rcases h with ⟨k, hk, rfl, hp⟩ | ⟨z | ⟨z, h1, h2, rfl⟩, hp⟩
  · refine br_f (nI_pos (by omega)) (br_t (nI_lt (by omega) (by omega)) (zx_select hk hp))
  · exact br_t z hp
  · exact br_f (nI_pos (by omega)) (br_f (nI_nlt h1 (by omega)) hp)
theorem zx_p21 {post : Int32 → Prop} {M z0 : Int32} {t ix : Nat} {back : Bool} (ht : t = (zb_ls M).length) (hix : (ix < t ∧ z0 = nI ix) ∨ (¬ ix < t ∧ ((∃ z, t ≤ z ∧ z < 100 ∧ z0 = nI z) ∨ (∃ z, 0 < z ∧ z < 100 ∧ z0 = -nI z))))
    (h : post (if h : ix < (zp_dl back M).length then zb_1 (zp_dl back M)[ix] else 0)) : wX_pick_21 post M (zp_b back) (nI t) z0 xL xD xI xB xn xu xbl xfl xfo xfh xpl xpo xrm xrc xord xrk xpar xlab xlev xsz xlm xvm xbn xbb xbv xbs xlin xgl xgv xgs xgst xpc xpn xpm xoa xsat := by
  have hl := zb_len M
  have hd := zp_dlen back M
  unfold wX_pick_21
  rcases hix with ⟨h1, rfl⟩ | ⟨h1, h2⟩
  · rw [dif_pos (by omega)] at h
    cases back
    · refine br_t rfl (zx_p36 ht (Or.inl ⟨ix, by omega, rfl, h⟩))
    · refine br_f (by decide) (nm_r (e' := nI (t - 1 - ix)) ?_ (zx_p36 ht (Or.inl ⟨t - 1 - ix, by omega, rfl, ?_⟩)))
      · rw [show nI t - 1 = nI (t - 1) by rw [show t = (t - 1) + 1 by omega]; exact nI_pred _, pk_sub (by omega)]
      · have e : (zp_dl true M)[ix]'(by omega) = (zb_ls M)[t - 1 - ix]'(by omega) := by
          show ((zb_ls M).reverse)[ix]'(by rw [List.length_reverse]; omega) = _
          rw [List.getElem_reverse]
          congr 1
          omega
        rw [e] at h; exact h
  · rw [dif_neg (by omega)] at h
    cases back
    · refine br_t rfl (zx_p36 ht (Or.inr ⟨?_, h⟩))
      rcases h2 with ⟨z, z1, z2, rfl⟩ | ⟨z, z1, z2, rfl⟩
      · exact Or.inr ⟨z, z1, by omega, rfl⟩
      · left
        have := pk_sneg (a := 0) (b := z) (by omega) z1
        rw [nI_0, Int32.zero_sub] at this
        exact this
    · refine br_f (by decide) ?_
      rcases h2 with ⟨z, z1, z2, rfl⟩ | ⟨z, z1, z2, rfl⟩
      · refine nm_r (e' := nI t - nI (z + 1)) (by rw [← nI_1]; grind) (zx_p36 ht (Or.inr ⟨Or.inl (pk_sneg (by omega) (by omega)), h⟩))
      · refine nm_r (e' := nI (t + (z - 1))) ?_ (zx_p36 ht (Or.inr ⟨Or.inr ⟨t + (z - 1), by omega, by omega, rfl⟩, h⟩))
        obtain ⟨w, rfl⟩ : ∃ w, z = w + 1 := ⟨z - 1, by omega⟩
        rw [Nat.add_sub_cancel, ← nI_add t w, ← nI_1 w]; grind
theorem zx_pick {post : Int32 → Prop} {M : Int32} {c : Nat} {back : Bool} (hc : 368 ≤ c ∧ c ≤ 432 ∧ c ≠ 400) (h : post (zp_pick back M c)) : wpX_pick post (xL, xD, xI, xB, xn, xu, xbl, xfl, xfo, xfh, xpl, xpo, xrm, xrc, xord, xrk, xpar, xlab, xlev, xsz, xlm, xvm, xbn, xbb, xbv, xbs, xlin, xgl, xgv, xgs, xgst, xpc, xpn, xpm, xoa, xsat) M (nI c - 400) (zp_b back) := by
  have hl := zb_len M
  unfold zp_pick at h
  unfold wpX_pick
  refine zx_bitCount ?_
  rcases Nat.lt_or_ge 400 c with z | z
  · have e : nI c - 400 = nI (c - 400) := pk_sub (b := 400) (by omega)
    rw [e]
    refine br_f (nI_nle (by omega) (by omega)) (zx_p21 (ix := zp_ix (zb_ls M).length c) rfl ?_ h)
    have e2 : nI (c - 400) - 1 = nI (c - 401) := by rw [show c - 400 = (c - 401) + 1 by omega]; exact nI_pred _
    have e3 : zp_ix (zb_ls M).length c = c - 401 := if_pos z
    rw [e2, e3]
    rcases Nat.lt_or_ge (c - 401) (zb_ls M).length with y | y
    · exact Or.inl ⟨y, rfl⟩
    · exact Or.inr ⟨by omega, Or.inl ⟨c - 401, y, by omega, rfl⟩⟩
  · have e : nI c - 400 = -nI (400 - c) := by
      have q : nI c + nI (400 - c) = 400 := by rw [nI_add, show c + (400 - c) = 400 by omega]; rfl
      rw [← q]; grind
    have e4 : -nI (400 - c) ≤ 0 := by
      have := pk_sneg (a := 0) (b := 400 - c) (by omega) (by omega)
      rw [nI_0, Int32.zero_sub] at this
      exact Int32.le_of_lt this
    rw [e]
    refine br_t e4 (zx_p21 (ix := zp_ix (zb_ls M).length c) rfl ?_ h)
    have e3 : zp_ix (zb_ls M).length c = if 400 - c ≤ (zb_ls M).length then (zb_ls M).length - (400 - c) else (zb_ls M).length := if_neg (by omega)
    rw [e3]
    rcases Nat.lt_or_ge (zb_ls M).length (400 - c) with y | y
    · rw [if_neg (by omega)]
      refine Or.inr ⟨by omega, Or.inr ⟨400 - c - (zb_ls M).length, by omega, by omega, ?_⟩⟩
      have q : nI (400 - c - (zb_ls M).length) + nI (zb_ls M).length = nI (400 - c) := by rw [nI_add]; exact congrArg nI (by omega)
      rw [← q]; grind
    · rw [if_pos y]
      refine Or.inl ⟨by omega, ?_⟩
      have q := pk_sub y
      rw [← q]; grind
section
variable {L D B n : Nat} {ord lev lab sz pr : Nat → Nat}
theorem zx_anc {post : Int32 → Prop} (T : zr_T L D B n ord lev lab sz pr) (X : zr_X n ord lev lab sz pr xord xrk xpar xlab xlev xsz xlm xvm) {x : Nat} (hx : x < n)
    (h : ∀ M, (∀ b, b < 32 → (bt M b = true ↔ b < x ∧ x ≤ b + sz b)) → post M) : wpX_ancestorMask post (xL, xD, xI, xB, xn, xu, xbl, xfl, xfo, xfh, xpl, xpo, xrm, xrc, xord, xrk, xpar, xlab, xlev, xsz, xlm, xvm, xbn, xbb, xbv, xbs, xlin, xgl, xgv, xgs, xgst, xpc, xpn, xpm, xoa, xsat) (nI (ord x)) := by
  have hb := T.2.1
  have key : ∀ d c (M : Int32), lev c = d → c < n → zt_as lev c x → (∀ b, b < 32 → (bt M b = true ↔ b < n ∧ zt_as lev b x ∧ d ≤ lev b ∧ b ≠ x)) → wX_ancestorMask_12 post xL xD xI xB xn xu xbl xfl xfo xfh xpl xpo xrm xrc xord xrk xpar xlab xlev xsz xlm xvm xbn xbb xbv xbs xlin xgl xgv xgs xgst xpc xpn xpm xoa xsat (d + 1) M (nI (ord c)) (nI d) := by
    intro d
    induction d with
    | zero =>
      intro c M hc hcn ha hM
      refine br_t (nI_le (a := 0) (b := 0) (by omega) (by omega)) (h M fun b hb32 => ?_)
      rw [hM b hb32]
      constructor
      · rintro ⟨h1, h2, -, h4⟩
        have := (zt_asS (T.1.2.2.2 b h1) hx).mp h2
        omega
      · rintro ⟨h1, h2⟩
        exact ⟨by omega, (zt_asS (T.1.2.2.2 b (by omega)) hx).mpr ⟨by omega, h2⟩, by omega, by omega⟩
    | succ d ih =>
      intro c M hc hcn ha hM
      have c0 : 0 < c := by
        rcases Nat.eq_zero_or_pos c with z | z
        · rw [z, T.1.2.1] at hc; omega
        · exact z
      have ac := T.2.2.2.1 c hcn
      have Pc := T.1.2.2.1 c c0 hcn
      have hpc := Pc.1
      have lpc := Pc.2.1
      have ap := T.2.2.2.1 (pr c) (by omega)
      have cc : (nI (ord c)).toNatClampNeg = ord c := nI_clamp (by omega)
      have cp : (nI (ord (pr c))).toNatClampNeg = ord (pr c) := nI_clamp (by omega)
      have hap : zt_as lev (pr c) x := zt_as_tr ((zt_asP Pc).mpr (Or.inr (zt_as_re _ _))) ha
      refine br_f (nI_nle (by omega) (by omega)) ⟨vp_in_nI (by omega) (by omega), nm_r (e' := nI (ord (pr c))) (by rw [cc, X.2.1 c hcn, if_neg (by omega)]) ⟨vp_in_nI (by omega) (by omega), nm_r (e' := M ||| zb_1 (pr c)) (by rw [cp, (X.1 (pr c) (by show pr c < n; omega)).2]; rfl) (nm_r (pk_m1 d) (ih (pr c) _ (by omega) (by omega) hap fun b hb32 => ?_))⟩⟩
      rw [b_or, Bool.or_eq_true, zb_1b (by omega) hb32, decide_eq_true_eq, hM b hb32]
      constructor
      · rintro (⟨h1, h2, h3, h4⟩ | e)
        · exact ⟨h1, h2, by omega, h4⟩
        · rw [e]; exact ⟨by omega, hap, by omega, by have := ha.1; omega⟩
      · rintro ⟨h1, h2, h3, h4⟩
        rcases Nat.eq_or_lt_of_le h3 with z | z
        · right
          have e : lev b = lev (pr c) := by omega
          rcases Nat.lt_trichotomy b (pr c) with w | w | w
          · have := h2.2 (pr c) w hap.1; omega
          · exact w
          · have := hap.2 b w h2.1; omega
        · exact Or.inl ⟨h1, h2, by omega, h4⟩
  have ax := T.2.2.2.1 x hx
  have cx : (nI (ord x)).toNatClampNeg = ord x := nI_clamp (by omega)
  unfold wpX_ancestorMask
  refine ⟨vp_in_nI (by omega) (by omega), nm_r (e' := nI (lev x)) (by rw [cx]; exact X.2.2.2.1 x hx) ⟨lev x + 1, key (lev x) x 0 rfl hx (zt_as_re _ _) fun b hb32 => ?_⟩⟩
  rw [b_0]
  constructor
  · intro z; exact absurd z (by decide)
  · rintro ⟨h1, h2, h3, h4⟩
    have := zt_as_lev h2
    exact absurd (zt_as_eq h2 (by omega)) h4
theorem zt_sib (O : zt_ok n lev sz pr) {x b : Nat} (hx : x < n) (h0 : 0 < x) (hbn : b < n) : (pr x < b ∧ b ≤ pr x + sz (pr x) ∧ lev b = lev x) ↔ 0 < b ∧ pr b = pr x := by
  have Px := O.2.2.1 x h0 hx
  have hpx := Px.1
  have lpx := Px.2.1
  constructor
  · rintro ⟨h1, h2, h3⟩
    have Pb := O.2.2.1 b (by omega) hbn
    have a := (zt_asS (O.2.2.2 (pr x) (by omega)) hbn).mpr ⟨by omega, h2⟩
    rcases (zt_asP Pb).mp a with e | e
    · omega
    · exact ⟨by omega, (zt_as_eq e (by have := Pb.2.1; omega)).symm⟩
  · rintro ⟨h1, h2⟩
    have Pb := O.2.2.1 b h1 hbn
    have q := zt_prs O h1 hbn
    rw [h2] at q
    have := Pb.1
    have := Pb.2.1
    rw [h2] at this
    exact ⟨by omega, q, by omega⟩
theorem zx_sib {post : Int32 → Prop} (T : zr_T L D B n ord lev lab sz pr) (X : zr_X n ord lev lab sz pr xord xrk xpar xlab xlev xsz xlm xvm) {x : Nat} (hx : x < n)
    (h : ∀ M, (∀ b, b < 32 → (bt M b = true ↔ b < n ∧ 0 < x ∧ 0 < b ∧ pr x = pr b)) → post M) : wpX_siblingMask post (xL, xD, xI, xB, xn, xu, xbl, xfl, xfo, xfh, xpl, xpo, xrm, xrc, xord, xrk, xpar, xlab, xlev, xsz, xlm, xvm, xbn, xbb, xbv, xbs, xlin, xgl, xgv, xgs, xgst, xpc, xpn, xpm, xoa, xsat) (nI (ord x)) := by
  have hb := T.2.1
  have ax := T.2.2.2.1 x hx
  have cx : (nI (ord x)).toNatClampNeg = ord x := nI_clamp (by omega)
  have vx : vp_in (nI (ord x)) 32 := vp_in_nI (by omega) (by omega)
  unfold wpX_siblingMask
  by_cases z : x = 0
  · refine br_t ((zr_nI0 T hx).mpr z) (h 0 fun b hb32 => ?_)
    rw [b_0]
    constructor
    · intro q; exact absurd q (by decide)
    · rintro ⟨-, q, -⟩; omega
  · have Px := T.1.2.2.1 x (by omega) hx
    have hpx := Px.1
    have S := (T.1.2.2.2 (pr x) (by omega)).1
    have ap := T.2.2.2.1 (pr x) (by omega)
    have cp : (nI (ord (pr x))).toNatClampNeg = ord (pr x) := nI_clamp (by omega)
    have vp : vp_in (nI (ord (pr x))) 32 := vp_in_nI (by omega) (by omega)
    have cl : (nI (lev x)).toNatClampNeg = lev x := nI_clamp (by omega)
    refine br_f (fun q => z ((zr_nI0 T hx).mp q)) ⟨vx, nm_r (e' := nI (ord (pr x))) (by rw [cx, X.2.1 x hx, if_neg z]) ⟨vp, nm_r (e' := nI (pr x + 1)) (by rw [cp, (X.1 (pr x) (by show pr x < n; omega)).2, nI_1]) ⟨vp, ?_⟩⟩⟩
    rw [cp, X.2.2.2.2.1 (pr x) (by show pr x < n; omega), nI_add, cx, X.2.2.2.1 x hx, cl]
    refine zx_span (by omega) (by omega) ⟨vx, vp_in_nI (by omega) (by omega), h _ fun b hb32 => ?_⟩
    rw [b_and, Bool.and_eq_true, zb_spb hb32, X.2.2.2.2.2.2 (lev x) (by omega) b hb32]
    constructor
    · rintro ⟨⟨h1, h2⟩, h3, h4⟩
      have := (zt_sib T.1 hx (by omega) h3).mp ⟨by omega, by omega, h4⟩
      exact ⟨h3, by omega, this.1, this.2.symm⟩
    · rintro ⟨h1, -, h3, h4⟩
      have := (zt_sib T.1 hx (by omega) h1).mpr ⟨h3, h4.symm⟩
      exact ⟨⟨by omega, by omega⟩, h1, this.2.2⟩
theorem zx_axis {post : Int32 → Prop} (T : zr_T L D B n ord lev lab sz pr) (X : zr_X n ord lev lab sz pr xord xrk xpar xlab xlev xsz xlm xvm) {ax x : Nat} (hax : ax ≤ 10) (hx : x < n)
    (h : ∀ M, (∀ b, b < 32 → (bt M b = true ↔ b < n ∧ zp_bel sz pr ax x b = true)) → post M) : wpX_axisMask post (xL, xD, xI, xB, nI n, xu, xbl, xfl, xfo, xfh, xpl, xpo, xrm, xrc, xord, xrk, xpar, xlab, xlev, xsz, xlm, xvm, xbn, xbb, xbv, xbs, xlin, xgl, xgv, xgs, xgst, xpc, xpn, xpm, xoa, xsat) (nI ax) (nI x) := by
  have hb := T.2.1
  have axx := T.2.2.2.1 x hx
  have S := (T.1.2.2.2 x hx).1
  have cx : (nI x).toNatClampNeg = x := nI_clamp (by omega)
  have co : (nI (ord x)).toNatClampNeg = ord x := nI_clamp (by omega)
  have vo : vp_in (nI (ord x)) 32 := vp_in_nI (by omega) (by omega)
  unfold wpX_axisMask
  refine ⟨vp_in_nI (by omega) (by omega), nm_r (e' := nI (ord x)) (by rw [cx]; exact (X.1 x hx).1) (nm_r (e' := zb_1 x) rfl ⟨vo, nm_r (e' := nI (x + 1 + sz x)) (by rw [co, X.2.2.2.2.1 x hx, nI_1, nI_add]) ?_⟩)⟩
  rcases Nat.lt_or_ge 9 ax with z | z
  · have e : ax = 10 := by omega
    subst e
    refine br_f (by decide) (br_t (by decide) (zx_sib T X hx fun M hM => zx_lowBits (by omega) (h _ fun b hb32 => ?_)))
    rw [b_and, Bool.and_eq_true, hM b hb32, zb_lob hb32, decide_eq_true_eq]
    show _ ↔ b < n ∧ decide (0 < x ∧ 0 < b ∧ pr x = pr b ∧ b < x) = true
    rw [decide_eq_true_eq]
    constructor
    · rintro ⟨⟨h1, h2, h3, h4⟩, h5⟩; exact ⟨h1, h2, h3, h4, h5⟩
    · rintro ⟨h1, h2, h3, h4, h5⟩; exact ⟨⟨h1, h2, h3, h4⟩, h5⟩
  · have e : ax = 0 ∨ ax = 1 ∨ ax = 2 ∨ ax = 3 ∨ ax = 4 ∨ ax = 5 ∨ ax = 6 ∨ ax = 7 ∨ ax = 8 ∨ ax = 9 := by omega
    rcases e with rfl | rfl | rfl | rfl | rfl | rfl | rfl | rfl | rfl | rfl
    · refine br_f (by decide) (br_f (by decide) (br_t (by decide) (h _ fun b hb32 => ?_)))
      rw [zb_1b (by omega) hb32, decide_eq_true_eq]
      show _ ↔ b < n ∧ decide (b = x) = true
      rw [decide_eq_true_eq]
      omega
    · refine br_f (by decide) (br_f (by decide) (br_f (by decide) (br_t (by decide) ?_)))
      rw [nI_1, co, X.2.2.2.1 x hx, nI_1]
      refine zx_span (by omega) (by omega) ⟨vo, vp_in_nI (by omega) (by omega), h _ fun b hb32 => ?_⟩
      rw [nI_clamp (by omega), b_and, Bool.and_eq_true, zb_spb hb32, X.2.2.2.2.2.2 (lev x + 1) (by omega) b hb32]
      show _ ↔ b < n ∧ decide (0 < b ∧ pr b = x) = true
      rw [decide_eq_true_eq]
      constructor
      · rintro ⟨⟨h1, h2⟩, h3, h4⟩
        have Pb := T.1.2.2.1 b (by omega) h3
        have a := (zt_asS (T.1.2.2.2 x hx) h3).mpr ⟨by omega, by omega⟩
        rcases (zt_asP Pb).mp a with e | e
        · omega
        · exact ⟨h3, by omega, (zt_as_eq e (by have := Pb.2.1; omega)).symm⟩
      · rintro ⟨h1, h2, h3⟩
        have Pb := T.1.2.2.1 b h2 h1
        have q := zt_prs T.1 h2 h1
        have := Pb.1
        have := Pb.2.1
        rw [h3] at q
        rw [h3] at this
        exact ⟨⟨by omega, by omega⟩, h1, by omega⟩
    · refine br_f (by decide) (br_f (by decide) (br_f (by decide) (br_f (by decide) (br_t (by decide) ?_))))
      rw [nI_1]
      refine zx_span (by omega) (by omega) (h _ fun b hb32 => ?_)
      rw [zb_spb hb32]
      show _ ↔ b < n ∧ decide (x < b ∧ b ≤ x + sz x) = true
      rw [decide_eq_true_eq]
      omega
    · refine br_f (by decide) (br_f (by decide) (br_f (by decide) (br_f (by decide) (br_f (by decide) (br_t (by decide) ?_)))))
      refine zx_span (by omega) (by omega) (h _ fun b hb32 => ?_)
      rw [zb_spb hb32]
      show _ ↔ b < n ∧ decide (x ≤ b ∧ b ≤ x + sz x) = true
      rw [decide_eq_true_eq]
      omega
    · refine br_f (by decide) (br_f (by decide) (br_f (by decide) (br_f (by decide) (br_f (by decide) (br_f (by decide) (br_t (by decide) ?_))))))
      by_cases z0 : x = 0
      · refine br_t ((zr_nI0 T hx).mpr z0) (h 0 fun b hb32 => ?_)
        show _ ↔ b < n ∧ decide (0 < x ∧ pr x = b) = true
        rw [b_0, decide_eq_true_eq]
        constructor
        · intro q; exact absurd q (by decide)
        · rintro ⟨-, q, -⟩; omega
      · have Px := T.1.2.2.1 x (by omega) hx
        have hpx := Px.1
        have ap := T.2.2.2.1 (pr x) (by omega)
        refine br_f (fun q => z0 ((zr_nI0 T hx).mp q)) ?_
        rw [co, X.2.1 x hx, if_neg z0]
        refine ⟨vo, vp_in_nI (by omega) (by omega), ?_⟩
        rw [nI_clamp (by omega), (X.1 (pr x) (by show pr x < n; omega)).2]
        refine h (zb_1 (pr x)) fun b hb32 => ?_
        rw [zb_1b (by omega) hb32]
        show _ ↔ b < n ∧ decide (0 < x ∧ pr x = b) = true
        rw [decide_eq_true_eq, decide_eq_true_eq]
        omega
    · refine br_f (by decide) (br_f (by decide) (br_f (by decide) (br_f (by decide) (br_f (by decide) (br_f (by decide) (br_f (by decide) (br_t (by decide) (zx_anc T X hx fun M hM => h _ fun b hb32 => ?_))))))))
      rw [hM b hb32]
      show _ ↔ b < n ∧ decide (b < x ∧ x ≤ b + sz b) = true
      rw [decide_eq_true_eq]
      omega
    · refine br_f (by decide) (br_f (by decide) (br_f (by decide) (br_f (by decide) (br_f (by decide) (br_f (by decide) (br_f (by decide) (br_f (by decide) (br_t (by decide) (zx_anc T X hx fun M hM => h _ fun b hb32 => ?_)))))))))
      rw [b_or, Bool.or_eq_true, hM b hb32, zb_1b (by omega) hb32, decide_eq_true_eq]
      show _ ↔ b < n ∧ decide (b ≤ x ∧ x ≤ b + sz b) = true
      rw [decide_eq_true_eq]
      constructor
      · rintro (q | q)
        · omega
        · subst q; omega
      · rintro ⟨q1, q2, q3⟩
        rcases Nat.eq_or_lt_of_le q2 with w | w
        · exact Or.inr w
        · exact Or.inl ⟨w, q3⟩
    · refine br_f (by decide) (br_f (by decide) (br_f (by decide) (br_f (by decide) (br_f (by decide) (br_f (by decide) (br_f (by decide) (br_f (by decide) (br_f (by decide) (br_t (by decide) (zx_span (by omega) (by omega) (h _ fun b hb32 => ?_)))))))))))
      rw [zb_spb hb32]
      show _ ↔ b < n ∧ decide (x + sz x < b) = true
      rw [decide_eq_true_eq]
      omega
    · refine br_f (by decide) (br_f (by decide) (br_f (by decide) (br_f (by decide) (br_f (by decide) (br_f (by decide) (br_f (by decide) (br_f (by decide) (br_f (by decide) (br_f (by decide) (br_t (by decide) (zx_lowBits (by omega) (zx_anc T X hx fun M hM => h _ fun b hb32 => ?_))))))))))))
      rw [b_and, Bool.and_eq_true, zb_not _ hb32, zb_lob hb32, decide_eq_true_eq]
      show _ ↔ b < n ∧ decide (b + sz b < x) = true
      rw [decide_eq_true_eq, Bool.not_eq_true']
      constructor
      · rintro ⟨q1, q2⟩
        refine ⟨by omega, ?_⟩
        rcases Nat.lt_or_ge (b + sz b) x with w | w
        · exact w
        · rw [(hM b hb32).mpr ⟨q1, w⟩] at q2; exact absurd q2 (by decide)
      · rintro ⟨q1, q2⟩
        refine ⟨by omega, ?_⟩
        cases e : bt M b
        · rfl
        · have := (hM b hb32).mp e; omega
    · refine br_f (by decide) (br_f (by decide) (br_f (by decide) (br_f (by decide) (br_f (by decide) (br_f (by decide) (br_f (by decide) (br_f (by decide) (br_f (by decide) (br_f (by decide) (br_f (by decide) (br_t (by decide) (zx_sib T X hx fun M hM => zx_lowBits (by omega) (h _ fun b hb32 => ?_)))))))))))))
      rw [b_and, Bool.and_eq_true, hM b hb32, zb_not _ hb32, zb_lob hb32, Bool.not_eq_true', decide_eq_false_iff_not]
      show _ ↔ b < n ∧ decide (0 < x ∧ 0 < b ∧ pr x = pr b ∧ x < b) = true
      rw [decide_eq_true_eq]
      constructor
      · rintro ⟨⟨h1, h2, h3, h4⟩, h5⟩; exact ⟨h1, h2, h3, h4, by omega⟩
      · rintro ⟨h1, h2, h3, h4, h5⟩
        refine ⟨⟨h1, h2, h3, h4⟩, fun q => ?_⟩
        have Pb := T.1.2.2.1 b h3 h1
        have Px := T.1.2.2.1 x h2 hx
        have l := (T.1.2.2.2 x hx).2.1 b h5 (by omega)
        have e1 := Pb.2.1
        have e2 := Px.2.1
        rw [h4] at e2
        omega
end
end
end
section
/-! ===== X: stages, predicates, run ===== -/
section
variable {xL xD xI xB xn xu xbl xfl xfo xfh xpl xpo xrm xrc : Int32} {xord xrk xpar xlab xlev xsz xlm xvm xbn xbb xbv xbs xlin xgl xgv xgs xgst xpc xpn xpm xoa xsat : Nat → Int32}
variable {L D B n q : Nat} {ord lev lab sz pr code nest mate nd : Nat → Nat}
theorem zx_fl {post : Int32 → Prop} {ns : Nat} {back : Bool} (hq : q ≤ 20) (hns : ns ≤ 3) (hP : zp_path B q code nest mate nd) (Q : zr_Q q code nest mate xpc xpn xpm) :
    ∀ d f j (M : Int32), j + d = q → d ≤ f → post (zp_fl q code nest xsat back ns f j M) → wX_stageValue_71 post (nI ns) (zp_b back) xL xD xI xB xn xu xbl xfl xfo xfh (nI q) xpo xrm xrc xord xrk xpar xlab xlev xsz xlm xvm xbn xbb xbv xbs xlin xgl xgv xgs xgst xpc xpn xpm xoa xsat (d + 1) M (nI j) := by
  intro d
  induction d with
  | zero =>
    intro f j M hj hf hp
    have e : j = q := by omega
    subst e
    refine br_t (nI_le (Nat.le_refl _) (by omega)) ?_
    cases f with
    | zero => exact hp
    | succ f =>
      unfold zp_fl at hp
      rw [if_pos (Nat.le_refl _)] at hp
      exact hp
  | succ d ih =>
    intro f j M hj hf hp
    obtain ⟨f, rfl⟩ : ∃ g, f = g + 1 := ⟨f - 1, by omega⟩
    have hjq : j < q := by omega
    obtain ⟨q1, q2, q3⟩ := Q j hjq
    obtain ⟨ck, nk⟩ := hP.1 j hjq
    have c1000 := zp_c1000 ck
    have cj : (nI j).toNatClampNeg = j := nI_clamp (by omega)
    have vj : vp_in (nI j) 20 := vp_in_nI (by omega) (by omega)
    refine br_f (nI_ge (by omega) (by omega)) (br_c (fun z => ?_) (fun z => ⟨vj, nm_r (e' := nI (code j)) (by rw [cj]; exact q1) ⟨vj, ?_⟩⟩))
    · rw [z] at hp ⊢; rw [zp_fl0] at hp; exact hp
    · rw [cj, q2]
      unfold zp_fl at hp
      rw [if_neg (show ¬ q ≤ j by omega)] at hp
      refine pk_le ns (nest j) (fun z1 => ⟨vj, ?_⟩) (fun z1 => ?_)
      · rw [if_neg (show ¬ nest j < ns by omega)] at hp
        refine pk_eq (nest j) ns (fun z2 => ?_) (fun z2 => ?_)
        · rw [if_pos z2] at hp
          refine zx_isStep c1000 (fun z3 => ?_) (fun z3 => ?_)
          · rw [if_pos z3] at hp
            exact br_f (by decide) hp
          · rw [if_neg (by omega)] at hp
            refine br_t rfl (zx_isPosition c1000 (fun z4 z5 => ?_) (fun z4 => ?_))
            · rw [if_pos z5] at hp
              exact br_f (by decide) (zx_pick (by unfold zp_cok at ck; omega) (nm_r (nI_1 j) (ih f (j + 1) _ (by omega) (by omega) hp)))
            · rw [if_neg (by omega)] at hp
              refine br_t rfl (zx_isOpening c1000 (fun z5 => ?_) (fun z5 => ?_))
              · rw [if_pos (by omega)] at hp
                exact br_f (by decide) ⟨vj, nm_e (nm_r (nI_1 j) (ih f (j + 1) _ (by omega) (by omega) hp))⟩
              · rw [if_neg (by unfold zp_cok at ck; omega)] at hp
                exact br_t rfl (nm_r (nI_1 j) (ih f (j + 1) _ (by omega) (by omega) hp))
        · rw [if_neg z2] at hp
          exact nm_r (nI_1 j) (ih f (j + 1) _ (by omega) (by omega) hp)
      · rw [if_pos z1] at hp; exact hp
theorem zx_stageValue {post : Int32 → Prop} (T : zr_T L D B n ord lev lab sz pr) (X : zr_X n ord lev lab sz pr xord xrk xpar xlab xlev xsz xlm xvm) (hq : q ≤ 20) (hP : zp_path B q code nest mate nd) (Q : zr_Q q code nest mate xpc xpn xpm) {i x : Nat} (hi : i < q) (hc : code i < 300) (hx : x < n)
    (h : post (zp_sv n q lab sz pr code nest xsat i x)) : wpX_stageValue post (xL, xD, xI, xB, nI n, xu, xbl, xfl, xfo, xfh, nI q, xpo, xrm, xrc, xord, xrk, xpar, xlab, xlev, xsz, xlm, xvm, xbn, xbb, xbv, xbs, xlin, xgl, xgv, xgs, xgst, xpc, xpn, xpm, xoa, xsat) (nI i) (nI x) := by
  have hb := T.2.1
  obtain ⟨q1, q2, q3⟩ := Q i hi
  obtain ⟨ck, nk⟩ := hP.1 i hi
  have hcc : 100 ≤ code i ∧ (code i - 100) / 10 ≤ 10 ∧ (code i - 100) % 10 ≤ B := by unfold zp_cok at ck; omega
  have ci : (nI i).toNatClampNeg = i := nI_clamp (by omega)
  have vi : vp_in (nI i) 20 := vp_in_nI (by omega) (by omega)
  have e100 : nI (code i) - 100 = nI (code i - 100) := pk_sub (b := 100) hcc.1
  have ed : nI (code i - 100) / 10 = nI (zp_ax (code i)) := pk_div (d := 10) (by omega) (by omega) (by omega)
  have er : nI (code i - 100) - nI (code i - 100) / 10 * 10 = nI (zp_w (code i)) := pk_rem (d := 10) (by omega) (by omega) (by omega)
  have hax : zp_ax (code i) ≤ 10 := hcc.2.1
  have hw : zp_w (code i) ≤ B := hcc.2.2
  unfold wpX_stageValue
  refine ⟨vi, nm_r (e' := nI (code i - 100)) (by rw [ci, q1, e100]) ⟨by decide, nm_r (e' := nI (zp_ax (code i))) ed ⟨by decide, nm_r (e' := nI (zp_w (code i)) - 1) (by rw [er]) ⟨vi, nm_r (e' := nI (nest i)) (by rw [ci]; exact q2) (zx_isReverse hax (zx_axis T X hax hx fun M hM => ?_))⟩⟩⟩⟩
  unfold zp_sv at h
  by_cases w0 : zp_w (code i) = 0
  · rw [w0]
    refine br_t (by decide) (nm_r (nI_1 i) ⟨q - (i + 1) + 1, zx_fl hq nk hP Q (q - (i + 1)) q (i + 1) M (by omega) (by omega) ?_⟩)
    have e : M = zp_m0 n lab sz pr (code i) x := by
      unfold zp_m0
      apply zb_eq
      intro b hb32
      rw [hM b hb32, zb_mkb _ (by omega) hb32, w0]
      simp
    rw [e]; exact h
  · have e1 : nI (zp_w (code i)) - 1 = nI (zp_w (code i) - 1) := by rw [show zp_w (code i) = (zp_w (code i) - 1) + 1 by omega]; exact nI_pred _
    have cw : (nI (zp_w (code i) - 1)).toNatClampNeg = zp_w (code i) - 1 := nI_clamp (by omega)
    rw [e1]
    refine br_f (nI_pos (by omega)) ⟨vp_in_nI (by omega) (by omega), nm_r (e' := zp_m0 n lab sz pr (code i) x) ?_ (nm_r (nI_1 i) ⟨q - (i + 1) + 1, zx_fl hq nk hP Q (q - (i + 1)) q (i + 1) _ (by omega) (by omega) h⟩)⟩
    rw [cw]
    unfold zp_m0
    apply zb_eq
    intro b hb32
    rw [b_and, Bool.and_eq_true, hM b hb32, X.2.2.2.2.2.1 _ (by omega) b hb32, zb_mkb _ (by omega) hb32]
    simp [w0]
    constructor
    · rintro ⟨⟨h1, h2⟩, h3, h4⟩; exact ⟨h1, h2, by omega⟩
    · rintro ⟨h1, h2, h3⟩; exact ⟨⟨h1, h2⟩, h1, by omega⟩
theorem zx_stageSources {post : Int32 → Prop} (T : zr_T L D B n ord lev lab sz pr) (X : zr_X n ord lev lab sz pr xord xrk xpar xlab xlev xsz xlm xvm) (hq : q ≤ 20) (hP : zp_path B q code nest mate nd) (Q : zr_Q q code nest mate xpc xpn xpm) {i : Nat} {G : Int32} (hi : i < q) (hc : code i < 300)
    (h : post (zp_ss (zp_sv n q lab sz pr code nest xsat i) G n)) : wpX_stageSources post (xL, xD, xI, xB, nI n, xu, xbl, xfl, xfo, xfh, nI q, xpo, xrm, xrc, xord, xrk, xpar, xlab, xlev, xsz, xlm, xvm, xbn, xbb, xbv, xbs, xlin, xgl, xgv, xgs, xgst, xpc, xpn, xpm, xoa, xsat) (nI i) G := by
  have hb := T.2.1
  have key : ∀ d k, k + d = n → wX_stageSources_11 post (nI i) G xL xD xI xB (nI n) xu xbl xfl xfo xfh (nI q) xpo xrm xrc xord xrk xpar xlab xlev xsz xlm xvm xbn xbb xbv xbs xlin xgl xgv xgs xgst xpc xpn xpm xoa xsat (d + 1) (zp_ss (zp_sv n q lab sz pr code nest xsat i) G k) (nI k) := by
    intro d
    induction d with
    | zero =>
      intro k hk
      have e : k = n := by omega
      subst e
      exact br_t (nI_le (Nat.le_refl _) (by omega)) h
    | succ d ih =>
      intro k hk
      have ihk := ih (k + 1) (by omega)
      rw [show zp_ss (zp_sv n q lab sz pr code nest xsat i) G (k + 1) = if zp_sv n q lab sz pr code nest xsat i k &&& G = 0 then zp_ss (zp_sv n q lab sz pr code nest xsat i) G k else zp_ss (zp_sv n q lab sz pr code nest xsat i) G k ||| zb_1 k from rfl] at ihk
      refine br_f (nI_ge (by omega) (by omega)) (zx_stageValue T X hq hP Q hi hc (by omega) (br_c (fun z => nm_r (nI_1 k) ?_) (fun z => nm_e (nm_r (nI_1 k) ?_))))
      · rw [if_pos z] at ihk; exact ihk
      · rw [if_neg z] at ihk; exact ihk
  unfold wpX_stageSources
  refine br_c (fun z => ?_) (fun z => ⟨n + 1, key n 0 (by omega)⟩)
  rw [z, zp_ss0] at h; exact h
theorem zx_ranks {post : Int32 → Prop} (T : zr_T L D B n ord lev lab sz pr) (X : zr_X n ord lev lab sz pr xord xrk xpar xlab xlev xsz xlm xvm) (hq : q ≤ 20) (hP : zp_path B q code nest mate nd) (Q : zr_Q q code nest mate xpc xpn xpm) {o c : Nat} (hoc : o < c) (hc : c < q)
    (h : post (zp_found n q lab sz pr code nest xsat o c)) : wpX_ranksWithValue post (xL, xD, xI, xB, nI n, xu, xbl, xfl, xfo, xfh, nI q, xpo, xrm, xrc, xord, xrk, xpar, xlab, xlev, xsz, xlm, xvm, xbn, xbb, xbv, xbs, xlin, xgl, xgv, xgs, xgst, xpc, xpn, xpm, xoa, xsat) (nI o) (nI c) := by
  have hb := T.2.1
  unfold zp_found at h
  have nc := (hP.1 c hc).2
  have key : ∀ e d, o + e + d + 1 = c → wX_ranksWithValue_24 post (nI o) (nI (nest c + 1)) xL xD xI xB (nI n) xu xbl xfl xfo xfh (nI q) xpo xrm xrc xord xrk xpar xlab xlev xsz xlm xvm xbn xbb xbv xbs xlin xgl xgv xgs xgst xpc xpn xpm xoa xsat (e + 1) (zp_bw (zp_B n q lab sz pr code nest xsat (nest c + 1)) c d (zb_lo n)) (nI (o + e)) := by
    intro e
    induction e with
    | zero =>
      intro d hd
      refine br_t (nI_le (by omega) (by omega)) ?_
      rw [show d = c - 1 - o by omega]; exact h
    | succ e ih =>
      intro d hd
      have ihd := ih (d + 1) (by omega)
      obtain ⟨j, hj⟩ : ∃ j, j = o + (e + 1) := ⟨_, rfl⟩
      rw [← hj]
      have hjq : j < q := by omega
      rw [show zp_bw (zp_B n q lab sz pr code nest xsat (nest c + 1)) c (d + 1) (zb_lo n) = zp_B n q lab sz pr code nest xsat (nest c + 1) (c - (d + 1)) (zp_bw (zp_B n q lab sz pr code nest xsat (nest c + 1)) c d (zb_lo n)) from rfl, show c - (d + 1) = j by omega] at ihd
      unfold zp_B at ihd
      obtain ⟨q1, q2, q3⟩ := Q j hjq
      obtain ⟨ck, nk⟩ := hP.1 j hjq
      have cj : (nI j).toNatClampNeg = j := nI_clamp (by omega)
      have vj : vp_in (nI j) 20 := vp_in_nI (by omega) (by omega)
      have em : nI j + (-1) = nI (o + e) := by rw [hj]; exact pk_m1 (o + e)
      refine br_f (nI_ge (by omega) (by omega)) ⟨vj, ?_⟩
      rw [cj, q2]
      refine pk_eq (nest j) (nest c + 1) (fun z => ⟨vj, ?_⟩) (fun z => ?_)
      · rw [q1]
        refine zx_isStep (zp_c1000 ck) (fun z2 => br_f (by decide) (zx_stageSources T X hq hP Q hjq z2 (nm_r em ?_))) (fun z2 => br_t rfl (nm_r em ?_))
        · rw [if_pos ⟨z, z2⟩] at ihd; exact ihd
        · rw [if_neg (by omega)] at ihd; exact ihd
      · rw [if_neg (by omega)] at ihd
        exact nm_r em ihd
  have cc : (nI c).toNatClampNeg = c := nI_clamp (by omega)
  unfold wpX_ranksWithValue
  refine ⟨vp_in_nI (by omega) (by omega), nm_r (e' := nI (nest c + 1)) (by rw [cc, (Q c hc).2.1, nI_1]) (zx_lowBits (by omega) (nm_r (e' := nI (o + (c - 1 - o))) ?_ ⟨_, key (c - 1 - o) 0 (by omega)⟩))⟩
  exact (congrArg (fun z => nI z - 1) (show c = (o + (c - 1 - o)) + 1 by omega)).trans (nI_pred _)
/-- the satisfied masks, right for all closings below i -/
def zp_E (n q : Nat) (lab sz pr code nest mate : Nat → Nat) (S : Nat → Int32) (i : Nat) : Prop := ∀ c, c < i → code c = 600 → S (mate c) = zp_val n q lab sz pr code nest S (mate c) c
theorem zx_solve {post : SX → Prop} (T : zr_T L D B n ord lev lab sz pr) (X : zr_X n ord lev lab sz pr xord xrk xpar xlab xlev xsz xlm xvm) (hq : q ≤ 20) (hP : zp_path B q code nest mate nd) (Q : zr_Q q code nest mate xpc xpn xpm)
    (h : ∀ S, zp_E n q lab sz pr code nest mate S q → post (xL, xD, xI, xB, nI n, xu, xbl, xfl, xfo, xfh, nI q, xpo, xrm, xrc, xord, xrk, xpar, xlab, xlev, xsz, xlm, xvm, xbn, xbb, xbv, xbs, xlin, xgl, xgv, xgs, xgst, xpc, xpn, xpm, xoa, S)) : wpX_solvePredicates post (xL, xD, xI, xB, nI n, xu, xbl, xfl, xfo, xfh, nI q, xpo, xrm, xrc, xord, xrk, xpar, xlab, xlev, xsz, xlm, xvm, xbn, xbb, xbv, xbs, xlin, xgl, xgv, xgs, xgst, xpc, xpn, xpm, xoa, xsat) := by
  have hb := T.2.1
  have key : ∀ d i (S : Nat → Int32), i + d = q → zp_E n q lab sz pr code nest mate S i → wX_solvePredicates_11 post (zb_lo n) xL xD xI xB (nI n) xu xbl xfl xfo xfh (nI q) xpo xrm xrc (d + 1) (nI i) xord xrk xpar xlab xlev xsz xlm xvm xbn xbb xbv xbs xlin xgl xgv xgs xgst xpc xpn xpm xoa S := by
    intro d
    induction d with
    | zero =>
      intro i S hi hE
      have e : i = q := by omega
      subst e
      exact br_t (nI_le (Nat.le_refl _) (by omega)) (h S hE)
    | succ d ih =>
      intro i S hi hE
      have hiq : i < q := by omega
      obtain ⟨q1, q2, q3⟩ := Q i hiq
      obtain ⟨ck, nk⟩ := hP.1 i hiq
      have ci : (nI i).toNatClampNeg = i := nI_clamp (by omega)
      have vi : vp_in (nI i) 20 := vp_in_nI (by omega) (by omega)
      refine br_f (nI_ge (by omega) (by omega)) ⟨vi, ?_⟩
      rw [ci, q1]
      refine zx_isClosing (zp_c1000 ck) (fun z => br_f (by decide) ⟨vi, ?_⟩) (fun z => br_t rfl (nm_r (nI_1 i) (ih (i + 1) S (by omega) (lt_s hE (fun y => absurd y z)))))
      obtain ⟨m1, m2, m3, m4⟩ := hP.2.2.2 i hiq z
      have co : (nI (mate i)).toNatClampNeg = mate i := nI_clamp (by omega)
      have vo : vp_in (nI (mate i)) 20 := vp_in_nI (by omega) (by omega)
      have cm := hP.1 (mate i) (by omega)
      -- what a write at the opening keeps
      have keep : zp_E n q lab sz pr code nest mate (upd S (mate i) (zp_val n q lab sz pr code nest S (mate i) i)) (i + 1) := by
        refine lt_s (fun c hc hcc => ?_) (fun _ => ?_)
        · obtain ⟨n1, n2, n3, n4⟩ := hP.2.2.2 c (by omega) hcc
          have out : mate i < mate c ∨ c ≤ mate i := by
            rcases Nat.lt_or_ge (mate i) (mate c) with w | w
            · exact Or.inl w
            · rcases Nat.lt_or_ge (mate i) c with w2 | w2
              · exfalso
                have a1 := m4 c w2 hc
                rcases Nat.eq_or_lt_of_le w with w3 | w3
                · rw [← w3] at m3; omega
                · have := n4 (mate i) w3 w2; omega
              · exact Or.inr w2
          rw [pk_un (by omega), hE c hc hcc]
          exact zp_valc n1 (by omega) (fun k k1 k2 => by rw [pk_un (by omega)])
        · rw [pk_us]
          exact zp_valc m1 hiq (fun k k1 k2 => by rw [pk_un (by omega)])
      refine nm_r (e' := nI (mate i)) (q3 z) (zx_ranks T X hq hP Q m1 hiq ⟨vo, ?_⟩)
      rw [co, (Q (mate i) (by omega)).1]
      unfold zp_val at keep
      refine pk_eq (code (mate i)) 501 (fun y => ⟨vo, nm_e (nm_r (nI_1 i) (ih (i + 1) _ (by omega) ?_))⟩) (fun y => ⟨vo, nm_e (nm_r (nI_1 i) (ih (i + 1) _ (by omega) ?_))⟩) (ha := by have := zp_c1000 cm.1; omega)
      · rw [if_pos y] at keep; exact keep
      · rw [if_neg y] at keep; exact keep
  unfold wpX_solvePredicates
  exact zx_lowBits (by omega) ⟨q + 1, key q 0 _ (by omega) (fun c hc => absurd hc (Nat.not_lt_zero c))⟩
theorem zx_fromSet {post : Int32 → Prop} (T : zr_T L D B n ord lev lab sz pr) (X : zr_X n ord lev lab sz pr xord xrk xpar xlab xlev xsz xlm xvm) (hq : q ≤ 20) (hP : zp_path B q code nest mate nd) (Q : zr_Q q code nest mate xpc xpn xpm) {i : Nat} {C : Int32} (hi : i < q) (hc : code i < 300)
    (h : post (zp_sf (zp_sv n q lab sz pr code nest xsat i) C n)) : wpX_stageFromSet post (xL, xD, xI, xB, nI n, xu, xbl, xfl, xfo, xfh, nI q, xpo, xrm, xrc, xord, xrk, xpar, xlab, xlev, xsz, xlm, xvm, xbn, xbb, xbv, xbs, xlin, xgl, xgv, xgs, xgst, xpc, xpn, xpm, xoa, xsat) (nI i) C := by
  have hb := T.2.1
  have key : ∀ d k, k + d = n → wX_stageFromSet_5 post (nI i) C xL xD xI xB (nI n) xu xbl xfl xfo xfh (nI q) xpo xrm xrc xord xrk xpar xlab xlev xsz xlm xvm xbn xbb xbv xbs xlin xgl xgv xgs xgst xpc xpn xpm xoa xsat (d + 1) (zp_sf (zp_sv n q lab sz pr code nest xsat i) C k) (nI k) := by
    intro d
    induction d with
    | zero =>
      intro k hk
      have e : k = n := by omega
      subst e
      exact br_t (nI_le (Nat.le_refl _) (by omega)) h
    | succ d ih =>
      intro k hk
      have ihk := ih (k + 1) (by omega)
      rw [show zp_sf (zp_sv n q lab sz pr code nest xsat i) C (k + 1) = if bt C k = true then zp_sf (zp_sv n q lab sz pr code nest xsat i) C k ||| zp_sv n q lab sz pr code nest xsat i k else zp_sf (zp_sv n q lab sz pr code nest xsat i) C k from rfl] at ihk
      refine br_f (nI_ge (by omega) (by omega)) (br_c (fun z => nm_r (nI_1 k) ?_) (fun z => zx_stageValue T X hq hP Q hi hc (by omega) (nm_e (nm_r (nI_1 k) ?_))))
      · rw [zb_and1 C (by omega)] at z
        rw [if_neg (by rw [z]; exact Bool.noConfusion)] at ihk; exact ihk
      · rw [zb_and1 C (by omega), Bool.not_eq_false] at z
        rw [if_pos z] at ihk; exact ihk
  unfold wpX_stageFromSet
  exact ⟨n + 1, key n 0 (by omega)⟩
/-- run, behind its refusals -/
theorem zx_run64 {post : Int32 → SX → Prop} (T : zr_T L D B n ord lev lab sz pr) (X : zr_X n ord lev lab sz pr xord xrk xpar xlab xlev xsz xlm xvm) (hq : q ≤ 20) (hP : zp_path B q code nest mate nd) (Q : zr_Q q code nest mate xpc xpn xpm) {C : Int32}
    (h : ∀ S, zp_E n q lab sz pr code nest mate S q → post (nI (zb_ls (zp_fw (zp_F n q lab sz pr code nest S 0) 0 q C)).length) (xL, xD, xI, xB, nI n, xu, xbl, xfl, xfo, xfh, nI q, xpo, zp_fw (zp_F n q lab sz pr code nest S 0) 0 q C, nI (zb_ls (zp_fw (zp_F n q lab sz pr code nest S 0) 0 q C)).length, xord, xrk, xpar, xlab, xlev, xsz, xlm, xvm, xbn, xbb, xbv, xbs, xlin, xgl, xgv, xgs, xgst, xpc, xpn, xpm, xoa, S)) : wX_run_64 post C xL xD xI xB (nI n) xu xbl xfl xfo xfh (nI q) xpo xrm xrc xord xrk xpar xlab xlev xsz xlm xvm xbn xbb xbv xbs xlin xgl xgv xgs xgst xpc xpn xpm xoa xsat := by
  unfold wX_run_64
  refine zx_solve T X hq hP Q fun S hE => ?_
  have key : ∀ d i, i + d = q → wX_run_71 post xL xD xI xB (nI n) xu xbl xfl xfo xfh (nI q) xpo xrm xrc xord xrk xpar xlab xlev xsz xlm xvm xbn xbb xbv xbs xlin xgl xgv xgs xgst xpc xpn xpm xoa S (d + 1) (zp_fw (zp_F n q lab sz pr code nest S 0) 0 i C) (nI i) := by
    intro d
    induction d with
    | zero =>
      intro i hi
      have e : i = q := by omega
      subst e
      exact br_t (nI_le (Nat.le_refl _) (by omega)) (zx_bitCount (h S hE))
    | succ d ih =>
      intro i hi
      have hiq : i < q := by omega
      have ihk := ih (i + 1) (by omega)
      rw [show zp_fw (zp_F n q lab sz pr code nest S 0) 0 (i + 1) C = zp_F n q lab sz pr code nest S 0 (0 + i) (zp_fw (zp_F n q lab sz pr code nest S 0) 0 i C) from rfl, Nat.zero_add] at ihk
      unfold zp_F at ihk
      obtain ⟨q1, q2, q3⟩ := Q i hiq
      obtain ⟨ck, nk⟩ := hP.1 i hiq
      have ci : (nI i).toNatClampNeg = i := nI_clamp (by omega)
      have vi : vp_in (nI i) 20 := vp_in_nI (by omega) (by omega)
      refine br_f (nI_ge (by omega) (by omega)) ⟨vi, ?_⟩
      rw [ci, q2]
      refine pk_eq (nest i) 0 (fun z => ⟨vi, ?_⟩) (fun z => ?_)
      · rw [q1]
        refine zx_isStep (zp_c1000 ck) (fun z2 => br_f (by decide) (zx_fromSet T X hq hP Q hiq z2 (nm_r (nI_1 i) ?_))) (fun z2 => br_t rfl (nm_r (nI_1 i) ?_))
        · rw [if_pos ⟨z, z2⟩] at ihk; exact ihk
        · rw [if_neg (by omega)] at ihk; exact ihk
      · rw [if_neg (by omega)] at ihk
        exact nm_r (nI_1 i) ihk
  exact ⟨q + 1, key q 0 (by omega)⟩
end
end
section
/-! ===== Y's evaluation: axes, filters ===== -/
theorem ek_if {c d A B : Prop} (e : c ↔ d) (f : d → A) (g : ¬ d → B) : (c → A) ∧ (¬ c → B) := ⟨fun h => f (e.mp h), fun h => g (fun z => h (e.mpr z))⟩
section
variable {yL yD yI yB yn yfc yfo ypc yrc ybc ylc : Int32} {yord ypar ylab ycell yit yres ybn ybcell ylist ycur ynext yholds : Nat → Int32}
variable {L D B n q : Nat} {ord lev lab sz pr code nest mate nd : Nat → Nat}
theorem zy_nest {post : Int32 → Prop} {c : Nat} (hc : zp_cok B c) (h1 : c = 600 → post (-1)) (h2 : c = 500 ∨ c = 501 → post 1) (h0 : c < 500 → post 0) : wpY_nest post (yL, yD, yI, yB, yn, yfc, yfo, ypc, yrc, ybc, ylc, yord, ypar, ylab, ycell, yit, yres, ybn, ybcell, ylist, ycur, ynext, yholds) (nI c) := by
  have c1 := zp_c1000 hc
  unfold wpY_nest
  exact pk_eq c 600 h1 (fun z => pk_lt c 500 h0 (fun y => h2 (by unfold zp_cok at hc; omega)))
/-- the nesting behind an item -/
theorem zy_ndn {post : Int32 → Prop} (hP : zp_path B q code nest mate nd) {j : Nat} (hj : j < q) {x : Int32} {e : Nat} (he : e ≤ nd j) (hx : x = nI (nd j - e)) (h : (code j = 600 ∧ nd j = e → post (-1)) ∧ (∀ r : Int32, e ≤ nd (j + 1) → x + r = nI (nd (j + 1) - e) → post r)) : wpY_nest post (yL, yD, yI, yB, yn, yfc, yfo, ypc, yrc, ybc, ylc, yord, ypar, ylab, ycell, yit, yres, ybn, ybcell, ylist, ycur, ynext, yholds) (nI (code j)) := by
  obtain ⟨ck, nk⟩ := hP.1 j hj
  obtain ⟨d1, d2⟩ := hP.2.2.1 j hj
  subst hx
  refine zy_nest ck (fun z => ?_) (fun z => ?_) (fun z => ?_)
  · rw [if_pos z] at d1
    rw [if_neg (by omega)] at d2
    rcases Nat.eq_or_lt_of_le he with w | w
    · exact h.1 ⟨z, w.symm⟩
    · refine h.2 (-1) (by omega) ?_
      rw [show nd j - e = (nd (j + 1) - e) + 1 by omega]; exact pk_m1 _
  · rw [if_neg (by omega)] at d1
    rw [if_pos z] at d2
    refine h.2 1 (by omega) ?_
    rw [nI_1]; exact congrArg nI (by omega)
  · rw [if_neg (by omega)] at d1
    rw [if_neg (by omega)] at d2
    refine h.2 0 (by omega) ?_
    rw [Int32.add_zero]; exact congrArg nI (by omega)
theorem zy_unclosed {post : Int32 → Prop} (hq : q ≤ 20) (hP : zp_path B q code nest mate nd) (I : ∀ j, j < q → yit j = nI (code j)) (h : post (nI (nd q))) : wpY_unclosed post (yL, yD, yI, yB, yn, yfc, yfo, nI q, yrc, ybc, ylc, yord, ypar, ylab, ycell, yit, yres, ybn, ybcell, ylist, ycur, ynext, yholds) := by
  have key : ∀ d i, i + d = q → wY_unclosed_4 post yL yD yI yB yn yfc yfo (nI q) yrc ybc ylc yord ypar ylab ycell yit yres ybn ybcell ylist ycur ynext yholds (d + 1) (nI (nd i)) (nI i) := by
    intro d
    induction d with
    | zero =>
      intro i hi
      have e : i = q := by omega
      subst e
      exact br_t (nI_le (Nat.le_refl _) (by omega)) h
    | succ d ih =>
      intro i hi
      have ci : (nI i).toNatClampNeg = i := nI_clamp (by omega)
      refine br_f (nI_ge (by omega) (by omega)) ⟨vp_in_nI (by omega) (by omega), ?_⟩
      rw [ci, I i (by omega)]
      refine zy_ndn hP (show i < q by omega) (e := 0) (Nat.zero_le _) rfl ⟨fun z => ?_, fun r _ hr => nm_r (e' := nI (nd (i + 1))) hr (nm_r (nI_1 i) (ih (i + 1) (by omega)))⟩
      have := (hP.2.2.1 i (by omega)).1
      rw [if_pos z.1] at this
      omega
  unfold wpY_unclosed
  have := key q 0 (by omega)
  rw [hP.2.1] at this
  exact ⟨_, this⟩
theorem zy_bel49 {post : Int32 → Prop} (T : zr_T L D B n ord lev lab sz pr) (Y : zr_Y n ord lab pr yord ypar ylab) {ax x y : Nat} (hax : ax ≤ 10) (hx : x < n) (hy : y < n) {s : Int32} (sb0 : s = 0 → ¬ (0 < x ∧ 0 < y ∧ pr x = pr y)) (sb1 : ¬ s = 0 → 0 < x ∧ 0 < y ∧ pr x = pr y)
    (h : post (zp_b (zp_bel sz pr ax x y))) : wY_belongs_49 post (nI ax) (nI x) (nI y) (nI (ord x)) (nI (ord y)) s yL yD yI yB yn yfc yfo ypc yrc ybc ylc yord ypar ylab ycell yit yres ybn ybcell ylist ycur ynext yholds := by
  have hb := T.2.1
  have ox := T.2.2.2.1 x hx
  have oy := T.2.2.2.1 y hy
  have vx : vp_in (nI (ord x)) 32 := vp_in_nI (by omega) (by omega)
  have vy : vp_in (nI (ord y)) 32 := vp_in_nI (by omega) (by omega)
  have pe : ∀ i j, i < n → j < n → (ypar (nI (ord i)).toNatClampNeg = nI (ord j) ↔ 0 < i ∧ pr i = j) := by
    intro i j hi hj
    have oi := T.2.2.2.1 i hi
    have oj := T.2.2.2.1 j hj
    rw [nI_clamp (by omega), Y.2.1 i hi]
    by_cases z : i = 0
    · rw [if_pos z]
      constructor
      · intro e
        exfalso
        have : nI (ord j) < 0 := by rw [← e]; decide
        exact nI_pos (by omega) this
      · intro e; omega
    · have := (T.1.2.2.1 i (by omega) hi).1
      rw [if_neg z, zr_nIj T (by omega) hj]
      omega
  have py := fun j hj => pe y j hy hj
  have px := fun j hj => pe x j hx hj
  have p1 : zp_bel sz pr ax x y = true → post 1 := fun e => by rw [e] at h; exact h
  have p0 : zp_bel sz pr ax x y = false → post 0 := fun e => by rw [e] at h; exact h
  have e : ax = 0 ∨ ax = 1 ∨ ax = 2 ∨ ax = 3 ∨ ax = 4 ∨ ax = 5 ∨ ax = 6 ∨ ax = 7 ∨ ax = 8 ∨ ax = 9 ∨ ax = 10 := by omega
  rcases e with rfl | rfl | rfl | rfl | rfl | rfl | rfl | rfl | rfl | rfl | rfl
  · exact br_t (by decide) (pk_eq x y (fun e => p1 (by show decide (y = x) = true; exact decide_eq_true e.symm)) (fun e => br_f (by decide) (br_f (by decide) (br_f (by decide) (br_f (by decide) (br_f (by decide) (br_f (by decide) (br_f (by decide) (br_f (by decide) (br_f (by decide) (br_f (by decide) (p0 (by show decide (y = x) = false; exact decide_eq_false (fun z => e z.symm))))))))))))))
  · exact br_f (by decide) (br_t (by decide) (⟨vy, ek_if (py x hx) (fun e => p1 (decide_eq_true e)) (fun e => br_f (by decide) (br_f (by decide) (br_f (by decide) (br_f (by decide) (br_f (by decide) (br_f (by decide) (br_f (by decide) (br_f (by decide) (br_f (by decide) (p0 (decide_eq_false e)))))))))))⟩))
  · exact br_f (by decide) (br_f (by decide) (br_f (by decide) (br_t (by decide) (zy_above T Y.2.1 hx hy (fun e => br_f (by decide) (p1 (decide_eq_true e))) (fun e => br_t rfl (br_f (by decide) (br_f (by decide) (br_f (by decide) (br_f (by decide) (br_f (by decide) (br_f (by decide) (br_f (by decide) (p0 (decide_eq_false e))))))))))))))
  · exact br_f (by decide) (br_f (by decide) (br_f (by decide) (br_f (by decide) (br_f (by decide) (br_t (by decide) (pk_eq x y (fun e => p1 (decide_eq_true (by omega))) (fun z => zy_above T Y.2.1 hx hy (fun e => br_f (by decide) (p1 (decide_eq_true (by omega)))) (fun e => br_t rfl (br_f (by decide) (br_f (by decide) (br_f (by decide) (br_f (by decide) (br_f (by decide) (p0 (decide_eq_false (by omega))))))))))))))))
  · exact br_f (by decide) (br_f (by decide) (br_t (by decide) (⟨vx, ek_if (px y hy) (fun e => p1 (decide_eq_true e)) (fun e => br_f (by decide) (br_f (by decide) (br_f (by decide) (br_f (by decide) (br_f (by decide) (br_f (by decide) (br_f (by decide) (br_f (by decide) (p0 (decide_eq_false e))))))))))⟩)))
  · exact br_f (by decide) (br_f (by decide) (br_f (by decide) (br_f (by decide) (br_t (by decide) (zy_above T Y.2.1 hy hx (fun e => br_f (by decide) (p1 (decide_eq_true e))) (fun e => br_t rfl (br_f (by decide) (br_f (by decide) (br_f (by decide) (br_f (by decide) (br_f (by decide) (br_f (by decide) (p0 (decide_eq_false e))))))))))))))
  · exact br_f (by decide) (br_f (by decide) (br_f (by decide) (br_f (by decide) (br_f (by decide) (br_f (by decide) (br_t (by decide) (pk_eq x y (fun e => p1 (decide_eq_true (by omega))) (fun z => zy_above T Y.2.1 hy hx (fun e => br_f (by decide) (p1 (decide_eq_true (by omega)))) (fun e => br_t rfl (br_f (by decide) (br_f (by decide) (br_f (by decide) (br_f (by decide) (p0 (decide_eq_false (by omega))))))))))))))))
  · exact br_f (by decide) (br_f (by decide) (br_f (by decide) (br_f (by decide) (br_f (by decide) (br_f (by decide) (br_f (by decide) (br_t (by decide) (pk_le y x (fun z => br_f (by decide) (br_f (by decide) (br_f (by decide) (p0 (decide_eq_false (by omega)))))) (fun z => zy_above T Y.2.1 hx hy (fun e => br_f (by decide) (br_f (by decide) (br_f (by decide) (br_f (by decide) (p0 (decide_eq_false (by omega))))))) (fun e => br_t rfl (p1 (decide_eq_true (by omega)))))))))))))
  · exact br_f (by decide) (br_f (by decide) (br_f (by decide) (br_f (by decide) (br_f (by decide) (br_f (by decide) (br_f (by decide) (br_f (by decide) (br_t (by decide) (pk_le x y (fun z => br_f (by decide) (br_f (by decide) (p0 (decide_eq_false (by omega))))) (fun z => zy_above T Y.2.1 hy hx (fun e => br_f (by decide) (br_f (by decide) (br_f (by decide) (p0 (decide_eq_false (by omega)))))) (fun e => br_t rfl (p1 (decide_eq_true (by omega))))))))))))))
  · exact br_f (by decide) (br_f (by decide) (br_f (by decide) (br_f (by decide) (br_f (by decide) (br_f (by decide) (br_f (by decide) (br_f (by decide) (br_f (by decide) (br_t (by decide) (br_c (fun z => br_f (by decide) (p0 (decide_eq_false (fun w => sb0 z ⟨w.1, w.2.1, w.2.2.1⟩)))) (fun z => pk_lt x y (fun e => p1 (decide_eq_true ⟨(sb1 z).1, (sb1 z).2.1, (sb1 z).2.2, e⟩)) (fun e => br_f (by decide) (p0 (decide_eq_false (fun w => by omega)))))))))))))))
  · exact br_f (by decide) (br_f (by decide) (br_f (by decide) (br_f (by decide) (br_f (by decide) (br_f (by decide) (br_f (by decide) (br_f (by decide) (br_f (by decide) (br_f (by decide) (br_t (by decide) (br_c (fun z => p0 (decide_eq_false (fun w => sb0 z ⟨w.1, w.2.1, w.2.2.1⟩))) (fun z => pk_le x y (fun e => p0 (decide_eq_false (fun w => by omega))) (fun e => p1 (decide_eq_true ⟨(sb1 z).1, (sb1 z).2.1, (sb1 z).2.2, e⟩))))))))))))))
theorem zy_belongs {post : Int32 → Prop} (T : zr_T L D B n ord lev lab sz pr) (Y : zr_Y n ord lab pr yord ypar ylab) {ax x y : Nat} (hax : ax ≤ 10) (hx : x < n) (hy : y < n) (h : post (zp_b (zp_bel sz pr ax x y))) : wpY_belongs post (yL, yD, yI, yB, yn, yfc, yfo, ypc, yrc, ybc, ylc, yord, ypar, ylab, ycell, yit, yres, ybn, ybcell, ylist, ycur, ynext, yholds) (nI ax) (nI x) (nI y) := by
  have hb := T.2.1
  have ox := T.2.2.2.1 x hx
  have oy := T.2.2.2.1 y hy
  have vx : vp_in (nI (ord x)) 32 := vp_in_nI (by omega) (by omega)
  have vy : vp_in (nI (ord y)) 32 := vp_in_nI (by omega) (by omega)
  have cx : (nI x).toNatClampNeg = x := nI_clamp (by omega)
  have cy : (nI y).toNatClampNeg = y := nI_clamp (by omega)
  have cox : (nI (ord x)).toNatClampNeg = ord x := nI_clamp (by omega)
  have coy : (nI (ord y)).toNatClampNeg = ord y := nI_clamp (by omega)
  unfold wpY_belongs
  refine ⟨vp_in_nI (by omega) (by omega), nm_r (e' := nI (ord x)) (by rw [cx]; exact Y.1 x hx) ⟨vp_in_nI (by omega) (by omega), nm_r (e' := nI (ord y)) (by rw [cy]; exact Y.1 y hy) ⟨vx, ?_⟩⟩⟩
  rw [cox, coy, Y.2.1 x hx, Y.2.1 y hy]
  by_cases z : x = 0
  · rw [if_pos z]
    exact br_t rfl (zy_bel49 T Y hax hx hy (fun _ q => by omega) (fun q => absurd rfl q) h)
  · have hpx := (T.1.2.2.1 x (by omega) hx).1
    have opx := T.2.2.2.1 (pr x) (by omega)
    rw [if_neg z]
    have ne1 : ¬ nI (ord (pr x)) = -1 := fun e => by
      have : nI (ord (pr x)) < 0 := by rw [e]; decide
      exact nI_pos (by omega) this
    refine br_f ne1 ⟨vx, vy, ?_⟩
    by_cases w : y = 0
    · rw [if_pos w]
      exact br_f ne1 (zy_bel49 T Y hax hx hy (fun _ q => by omega) (fun q => absurd rfl q) h)
    · have hpy := (T.1.2.2.1 y (by omega) hy).1
      rw [if_neg w]
      refine ek_if (zr_nIj T (by omega) (by omega)) (fun e => zy_bel49 T Y hax hx hy (fun q => absurd q (by decide)) (fun _ => ⟨by omega, by omega, e⟩) h) (fun e => zy_bel49 T Y hax hx hy (fun _ q => e q.2.2) (fun q => absurd rfl q) h)
end
/-! the list of a stage: an array that shows a list -/
theorem zb_nt {x : Bool} (h : ¬ x = true) : x = false := by cases x <;> simp at h ⊢
def zr_L (l : List Nat) (A : Nat → Int32) : Prop := ∀ k, (h : k < l.length) → A k = nI l[k]
def zp_kp (kp : Nat → Bool) (g : Nat → Nat) : Nat → List Nat
  | 0 => []
  | p + 1 => if kp p = true then zp_kp kp g p ++ [g p] else zp_kp kp g p
theorem zp_kpl (kp : Nat → Bool) (g : Nat → Nat) : ∀ p, (zp_kp kp g p).length ≤ p
  | 0 => Nat.le_refl _
  | p + 1 => by
    have := zp_kpl kp g p
    unfold zp_kp
    by_cases c : kp p = true
    · rw [if_pos c, List.length_append]; show _ + 1 ≤ _; omega
    · rw [if_neg c]; omega
theorem zp_kpc {kp kp' : Nat → Bool} {g g' : Nat → Nat} : ∀ {p : Nat}, (∀ k, k < p → kp k = kp' k ∧ g k = g' k) → zp_kp kp g p = zp_kp kp' g' p
  | 0, _ => rfl
  | p + 1, h => by
    unfold zp_kp
    rw [zp_kpc (p := p) (fun k hk => h k (by omega)), (h p (by omega)).1, (h p (by omega)).2]
theorem zp_kpf (P : Nat → Bool) (l : List Nat) : zp_kp (fun p => P (l.getD p 0)) (fun p => l.getD p 0) l.length = l.filter P := by
  have key : ∀ p, p ≤ l.length → zp_kp (fun p => P (l.getD p 0)) (fun p => l.getD p 0) p = (l.take p).filter P := by
    intro p
    induction p with
    | zero => intro _; simp [zp_kp]
    | succ p ih =>
      intro hp
      have e : l.getD p 0 = l[p]'(by omega) := by simp [List.getD, List.getElem?_eq_getElem (show p < l.length by omega)]
      unfold zp_kp
      rw [ih (by omega), List.take_succ_eq_append_getElem (show p < l.length by omega), List.filter_append, e]
      by_cases c : P (l[p]'(by omega)) = true
      · rw [if_pos c]; simp [c]
      · rw [if_neg c]; simp [c]
  rw [key _ (Nat.le_refl _), List.take_length]
theorem zp_kp1 (g : Nat → Nat) (ix : Nat) : ∀ p, zp_kp (fun k => decide (k = ix)) g p = if ix < p then [g ix] else []
  | 0 => by unfold zp_kp; rw [if_neg (Nat.not_lt_zero _)]
  | p + 1 => by
    unfold zp_kp
    rw [zp_kp1 g ix p]
    by_cases c : p = ix
    · subst c; rw [if_pos (decide_eq_true rfl), if_neg (Nat.lt_irrefl _), if_pos (Nat.lt_succ_self _)]; rfl
    · rw [if_neg (by rw [decide_eq_true_eq]; exact c)]
      by_cases w : ix < p
      · rw [if_pos w, if_pos (by omega)]
      · rw [if_neg w, if_neg (by omega)]
theorem zr_Lput {l : List Nat} {A : Nat → Int32} {v : Nat} (h : zr_L l A) : zr_L (l ++ [v]) (upd A l.length (nI v)) := by
  intro k hk
  rw [List.length_append] at hk
  have hk : k < l.length + 1 := hk
  by_cases c : k = l.length
  · subst c; rw [pk_us, List.getElem_append_right (Nat.le_refl _)]; simp
  · rw [pk_un c, List.getElem_append_left (by omega)]; exact h k (by omega)
theorem zr_Lcut {l : List Nat} {A : Nat → Int32} {k : Nat} {v : Int32} (h : zr_L l A) (hk : l.length ≤ k) : zr_L l (upd A k v) := by
  intro i hi; rw [pk_un (by omega)]; exact h i hi
section
variable {yL yD yI yB yn yfc yfo ypc yrc ybc ylc : Int32} {yord ypar ylab ycell yit yres ybn ybcell ylist ycur ynext yholds : Nat → Int32}
variable {n q : Nat} {code : Nat → Nat}
/-- the end of a turn of the filter -/
theorem zy_f120 {post : SY → Prop} {J : Int32 → Int32 → (Nat → Int32) → (Nat → Int32) → (Nat → Int32) → (Nat → Int32) → (Nat → Int32) → (Nat → Int32) → (Nat → Int32) → (Nat → Int32) → (Nat → Int32) → (Nat → Int32) → (Nat → Int32) → (Nat → Int32) → Prop} {x1 x2 : Int32} {kp : Nat → Bool} {l : List Nat} {p : Nat} (hl : l.length ≤ 32) (hp : p < l.length)
    (hA : zr_L (zp_kp kp (fun p => l.getD p 0) p) ylist) (hB : ∀ k, p ≤ k → (h : k < l.length) → ylist k = nI l[k])
    (h : ∀ A, zr_L (zp_kp kp (fun p => l.getD p 0) (p + 1)) A → (∀ k, p + 1 ≤ k → (h : k < l.length) → A k = nI l[k]) → J (nI (zp_kp kp (fun p => l.getD p 0) (p + 1)).length) (nI (p + 1)) yord ypar ylab ycell yit yres ybn ybcell A ycur ynext yholds) :
    wY_filter_120 post J x1 x2 (nI (zp_kp kp (fun p => l.getD p 0) p).length) (nI p) (zp_b (kp p)) yL yD yI yB yn yfc yfo ypc yrc ybc ylc yord ypar ylab ycell yit yres ybn ybcell ylist ycur ynext yholds := by
  have kl := zp_kpl kp (fun p => l.getD p 0) p
  have e1 : zp_kp kp (fun p => l.getD p 0) (p + 1) = if kp p = true then zp_kp kp (fun p => l.getD p 0) p ++ [l.getD p 0] else zp_kp kp (fun p => l.getD p 0) p := rfl
  have eg : l.getD p 0 = l[p] := by simp [List.getD, List.getElem?_eq_getElem hp]
  rw [e1] at h
  generalize zp_kp kp (fun p => l.getD p 0) p = r at *
  have cr : (nI r.length).toNatClampNeg = r.length := nI_clamp (by omega)
  have cp : (nI p).toNatClampNeg = p := nI_clamp (by omega)
  unfold wY_filter_120
  by_cases c : kp p = true
  · rw [if_pos c] at h
    rw [c]
    refine br_f (by decide) (nm_r (nI_1 r.length) ⟨vp_in_nI (by omega) (by omega), vp_in_nI (by omega) (by omega), nm_r (e' := upd ylist r.length (nI (l.getD p 0))) (by rw [cr, cp, hB p (Nat.le_refl _) hp, eg]) (nm_r (nI_1 p) ?_)⟩)
    have := h (upd ylist r.length (nI (l.getD p 0))) (zr_Lput hA) (fun k k1 k2 => by rw [pk_un (by omega)]; exact hB k (by omega) k2)
    rw [List.length_append] at this
    exact this
  · rw [if_neg c] at h
    rw [zb_nt c]
    exact br_t rfl (nm_r (nI_1 p) (h ylist hA (fun k k1 k2 => hB k (by omega) k2)))
/-- a filter keeps what kp tells -/
theorem zy_filter {post : SY → Prop} {kp : Nat → Bool} {l : List Nat} {j : Nat} (hl : l.length ≤ 32) (hj : j < q) (hq : q ≤ 20) (I : ∀ j, j < q → yit j = nI (code j)) (hA : zr_L l ylist) (hl32 : ∀ k, (h : k < l.length) → l[k] < 32)
    (hc : ((368 ≤ code j ∧ code j ≤ 432 ∧ code j ≠ 400) ∧ ∀ p, p < l.length → kp p = decide (p = zp_ix l.length (code j))) ∨
      ((code j = 500 ∨ code j = 501) ∧ ∀ p, (h : p < l.length) → yholds (32 * j + l[p]) = zp_b (if code j = 501 then kp p else !(kp p))))
    (h : ∀ A, zr_L (zp_kp kp (fun p => l.getD p 0) l.length) A → post (yL, yD, yI, yB, yn, yfc, yfo, ypc, yrc, ybc, nI (zp_kp kp (fun p => l.getD p 0) l.length).length, yord, ypar, ylab, ycell, yit, yres, ybn, ybcell, A, ycur, ynext, yholds)) : wpY_filter post (yL, yD, yI, yB, yn, yfc, yfo, ypc, yrc, ybc, nI l.length, yord, ypar, ylab, ycell, yit, yres, ybn, ybcell, ylist, ycur, ynext, yholds) (nI j) := by
  have cj : (nI j).toNatClampNeg = j := nI_clamp (by omega)
  have vj : vp_in (nI j) 20 := vp_in_nI (by omega) (by omega)
  have key : ∀ d p (A : Nat → Int32), p + d = l.length → zr_L (zp_kp kp (fun p => l.getD p 0) p) A → (∀ k, p ≤ k → (h : k < l.length) → A k = nI l[k]) →
      wY_filter_16 post (nI j) (nI (code j) - 400) yL yD yI yB yn yfc yfo ypc yrc ybc (nI l.length) (d + 1) (nI (zp_kp kp (fun p => l.getD p 0) p).length) (nI p) yord ypar ylab ycell yit yres ybn ybcell A ycur ynext yholds := by
    intro d
    induction d with
    | zero =>
      intro p A hp g1 g2
      have e : p = l.length := by omega
      subst e
      exact br_t (nI_le (Nat.le_refl _) (by omega)) (h A g1)
    | succ d ih =>
      intro p A hp g1 g2
      have hpl : p < l.length := by omega
      have cp : (nI p).toNatClampNeg = p := nI_clamp (by omega)
      have vp : vp_in (nI p) 32 := vp_in_nI (by omega) (by omega)
      have l32 := hl32 p hpl
      -- one turn, whatever the first test said
      have fin : wY_filter_120 post (wY_filter_16 post (nI j) (nI (code j) - 400) yL yD yI yB yn yfc yfo ypc yrc ybc (nI l.length) (d + 1)) (nI j) (nI (code j) - 400) (nI (zp_kp kp (fun p => l.getD p 0) p).length) (nI p) (zp_b (kp p)) yL yD yI yB yn yfc yfo ypc yrc ybc (nI l.length) yord ypar ylab ycell yit yres ybn ybcell A ycur ynext yholds := zy_f120 hl hpl g1 g2 (fun A' a1 a2 => ih (p + 1) A' (by omega) a1 a2)
      have turn : ∀ z0 : Int32, (code j < 500 → z0 = zp_b (kp p)) → wY_filter_62 post (wY_filter_16 post (nI j) (nI (code j) - 400) yL yD yI yB yn yfc yfo ypc yrc ybc (nI l.length) (d + 1)) (nI j) (nI (code j) - 400) (nI (zp_kp kp (fun p => l.getD p 0) p).length) (nI p) z0 yL yD yI yB yn yfc yfo ypc yrc ybc (nI l.length) yord ypar ylab ycell yit yres ybn ybcell A ycur ynext yholds := by
        intro z0 hz
        unfold wY_filter_62
        refine ⟨vj, ?_⟩
        rw [cj, I j hj]
        rcases hc with ⟨hcp, hk⟩ | ⟨hco, hk⟩
        · refine br_t (nI_lt (b := 500) (by omega) (by decide)) ?_
          rw [hz (by omega)]; exact fin
        · refine br_f (nI_nlt (b := 500) (by omega) (by omega)) ?_
          have ei : (32 : Int32) * nI j + nI l[p] = nI (32 * j + l[p]) := by rw [show (32 : Int32) = nI 32 from rfl, pk_mul, nI_add]
          rw [cp, g2 p (Nat.le_refl _) hpl, ei, nI_clamp (by omega), hk p hpl]
          refine ⟨vp, vp_in_nI (by omega) (by omega), vj, pk_eq (code j) 501 (fun z => ?_) (fun z => ?_)⟩
          · rw [if_pos z]
            unfold wY_filter_110 wY_filter_118
            cases e : kp p
            · rw [e] at fin; exact br_f (by decide) fin
            · rw [e] at fin; exact br_t rfl fin
          · rw [if_neg z]
            unfold wY_filter_110 wY_filter_118
            cases e : kp p
            · rw [e] at fin; exact br_f (by decide) fin
            · rw [e] at fin; exact br_t rfl fin
      refine br_f (nI_ge (by omega) (by omega)) ?_
      rcases hc with ⟨hcp, hk⟩ | ⟨hco, hk⟩
      · rcases Nat.lt_or_ge 400 (code j) with z | z
        · have e : nI (code j) - 400 = nI (code j - 400) := pk_sub (b := 400) (by omega)
          have ix : zp_ix l.length (code j) = code j - 401 := if_pos z
          refine br_f (by rw [e]; exact nI_nle (by omega) (by omega)) (ek_if (d := p = zp_ix l.length (code j)) ?_ (fun w => turn 1 (fun _ => ?_)) (fun w => turn 0 (fun _ => ?_)))
          · rw [e, nI_1, nI_eq (by omega) (by omega), ix]; omega
          · rw [hk p hpl, decide_eq_true w]; rfl
          · rw [hk p hpl, decide_eq_false w]; rfl
        · have q1 : nI (code j) + nI (400 - code j) = 400 := by rw [nI_add, show code j + (400 - code j) = 400 by omega]; rfl
          have e : nI (code j) - 400 = -nI (400 - code j) := by rw [← q1]; grind
          have e2 : -(nI (code j) - 400) = nI (400 - code j) := by rw [e, Int32.neg_neg]
          have e4 : nI (code j) - 400 ≤ 0 := by
            have := pk_sneg (a := 0) (b := 400 - code j) (by omega) (by omega)
            rw [nI_0, Int32.zero_sub] at this
            rw [e]
            exact Int32.le_of_lt this
          have ix : zp_ix l.length (code j) = if 400 - code j ≤ l.length then l.length - (400 - code j) else l.length := if_neg (by omega)
          refine br_t e4 (ek_if (d := p = zp_ix l.length (code j)) ?_ (fun w => turn 1 (fun _ => ?_)) (fun w => turn 0 (fun _ => ?_)))
          · rw [e2, pk_sub (by omega), nI_eq (by omega) (by omega), ix]
            by_cases w : 400 - code j ≤ l.length
            · rw [if_pos w]; omega
            · rw [if_neg w]; omega
          · rw [hk p hpl, decide_eq_true w]; rfl
          · rw [hk p hpl, decide_eq_false w]; rfl
      · have e : nI (code j) - 400 = nI (code j - 400) := pk_sub (b := 400) (by omega)
        refine br_f (by rw [e]; exact nI_nle (by omega) (by omega)) (br_c (fun _ => turn 1 (fun w => by omega)) (fun _ => turn 0 (fun w => by omega)))
  unfold wpY_filter
  exact ⟨vj, nm_r (e' := nI (code j) - 400) (by rw [cj, I j hj]) ⟨l.length + 1, key l.length 0 _ (by omega) (fun k hk => absurd hk (Nat.not_lt_zero k)) (fun k _ hk => hA k hk)⟩⟩
end
end
section
/-! ===== Y: one stage ===== -/
theorem zp_kpm (P : Nat → Bool) (back : Bool) {n : Nat} (hn : n ≤ 32) : zp_kp (fun k => P (if back = true then n - 1 - k else k)) (fun k => if back = true then n - 1 - k else k) n = zp_dl back (zb_mk P n) := by
  have e0 : zb_ls (zb_mk P n) = (List.range n).filter P := by
    refine zb_uniq (zb_srt _) (List.Pairwise.filter _ List.pairwise_lt_range) fun i => ?_
    rw [zb_mem, List.mem_filter, List.mem_range]
    constructor
    · rintro ⟨h1, h2⟩; exact (zb_mkb P hn h1).mp h2
    · rintro ⟨h1, h2⟩; exact ⟨by omega, (zb_mkb P hn (by omega)).mpr ⟨h1, h2⟩⟩
  unfold zp_dl
  rw [e0]
  cases back
  · rw [if_neg Bool.noConfusion]
    have h := zp_kpf P (List.range n)
    rw [List.length_range] at h
    rw [← h]
    refine zp_kpc fun k hk => ?_
    have e : (List.range n).getD k 0 = k := by simp [List.getD, hk]
    rw [e]
    exact ⟨rfl, rfl⟩
  · rw [if_pos rfl, ← List.filter_reverse]
    have h := zp_kpf P (List.range n).reverse
    rw [List.length_reverse, List.length_range] at h
    rw [← h]
    refine zp_kpc fun k hk => ?_
    have e : (List.range n).reverse.getD k 0 = n - 1 - k := by
      rw [List.getD, List.getElem?_reverse (by rw [List.length_range]; exact hk), List.length_range, List.getElem?_range (by omega)]
      rfl
    rw [e]
    exact ⟨rfl, rfl⟩
section
variable {yL yD yI yB yn yfc yfo ypc yrc ybc ylc : Int32} {yord ypar ylab ycell yit yres ybn ybcell ylist ycur ynext yholds : Nat → Int32}
variable {L D B n q : Nat} {ord lev lab sz pr code nest mate nd : Nat → Nat} {S : Nat → Int32}
def zr_H (n : Nat) (code : Nat → Nat) (S : Nat → Int32) (A : Nat → Int32) (k : Nat) : Prop := (code k = 500 ∨ code k = 501) → ∀ y, y < n → A (32 * k + y) = zp_b (if code k = 501 then bt (S k) y else !(bt (S k) y))
theorem zy_filtM {post : SY → Prop} {M : Int32} {back : Bool} {j : Nat} (hn : n ≤ 32) (hj : j < q) (hq : q ≤ 20) (ck : zp_cok B (code j)) (I : ∀ j, j < q → yit j = nI (code j)) (hA : zr_L (zp_dl back M) ylist) (hM : ∀ y, bt M y = true → y < n)
    (h3 : 300 ≤ code j) (h6 : code j < 600) (Hh : zr_H n code S yholds j)
    (h : ∀ A, zr_L (zp_dl back (if code j < 500 then zp_pick back M (code j) else M &&& S j)) A → post (yL, yD, yI, yB, yn, yfc, yfo, ypc, yrc, ybc, nI (zp_dl back (if code j < 500 then zp_pick back M (code j) else M &&& S j)).length, yord, ypar, ylab, ycell, yit, yres, ybn, ybcell, A, ycur, ynext, yholds)) : wpY_filter post (yL, yD, yI, yB, yn, yfc, yfo, ypc, yrc, ybc, nI (zp_dl back M).length, yord, ypar, ylab, ycell, yit, yres, ybn, ybcell, ylist, ycur, ynext, yholds) (nI j) := by
  have ll := zp_dlen back M
  have l32 := zb_len M
  have gm : ∀ k, (hk : k < (zp_dl back M).length) → bt M (zp_dl back M)[k] = true := fun k hk => zp_dmem.mp (List.getElem_mem hk)
  by_cases c : code j < 500
  · rw [if_pos c] at h
    have cp : 368 ≤ code j ∧ code j ≤ 432 ∧ code j ≠ 400 := by unfold zp_cok at ck; omega
    refine zy_filter (kp := fun p => decide (p = zp_ix (zp_dl back M).length (code j))) (by omega) hj hq I hA (fun k hk => by have := hM _ (gm k hk); omega) (Or.inl ⟨cp, fun p _ => rfl⟩) fun A a1 => ?_
    have e : zp_kp (fun p => decide (p = zp_ix (zp_dl back M).length (code j))) (fun p => (zp_dl back M).getD p 0) (zp_dl back M).length = zp_dl back (zp_pick back M (code j)) := by
      rw [zp_kp1, ll]
      by_cases w : zp_ix (zb_ls M).length (code j) < (zb_ls M).length
      · rw [if_pos w, zp_dlp (by omega)]
        simp [List.getD, List.getElem?_eq_getElem (show zp_ix (zb_ls M).length (code j) < (zp_dl back M).length by omega)]
      · rw [if_neg w, zp_dlp0 (by omega)]
    rw [e] at a1 ⊢
    exact h A a1
  · rw [if_neg c] at h
    have co : code j = 500 ∨ code j = 501 := by unfold zp_cok at ck; omega
    refine zy_filter (kp := fun p => bt (S j) ((zp_dl back M).getD p 0)) (by omega) hj hq I hA (fun k hk => by have := hM _ (gm k hk); omega) (Or.inr ⟨co, fun p hp => ?_⟩) fun A a1 => ?_
    · have e : (zp_dl back M).getD p 0 = (zp_dl back M)[p] := by simp [List.getD, List.getElem?_eq_getElem hp]
      rw [e]
      exact Hh co _ (hM _ (gm p hp))
    · rw [zp_kpf (fun y => bt (S j) y), ← zp_dla] at a1 ⊢
      exact h A a1
/-- the list goes into next -/
theorem zy_s302 {post : SY → Prop} {J : Int32 → Int32 → Int32 → Int32 → Int32 → Int32 → Int32 → Int32 → Int32 → Int32 → Int32 → Int32 → (Nat → Int32) → (Nat → Int32) → (Nat → Int32) → (Nat → Int32) → (Nat → Int32) → (Nat → Int32) → (Nat → Int32) → (Nat → Int32) → (Nat → Int32) → (Nat → Int32) → (Nat → Int32) → (Nat → Int32) → Prop} {x1 x2 x3 x4 : Int32} {x : Nat} {R N : Int32} {back : Bool} (hn : n ≤ 32) (hR : ∀ y, bt R y = true → y < n) (hA : zr_L (zp_dl back R) ylist) (hN : ∀ y, y < n → ynext y = zp_b (bt N y))
    (h : ∀ Nx, (∀ y, y < n → Nx y = zp_b (bt (N ||| R) y)) → J (nI (x + 1)) yL yD yI yB yn yfc yfo ypc yrc ybc (nI (zp_dl back R).length) yord ypar ylab ycell yit yres ybn ybcell ylist ycur Nx yholds) :
    ∃ f, wY_stage_302 post J x1 x2 x3 x4 (nI x) yL yD yI yB yn yfc yfo ypc yrc ybc (nI (zp_dl back R).length) f 0 yord ypar ylab ycell yit yres ybn ybcell ylist ycur ynext yholds := by
  have ll := zp_dlen back R
  have l32 := zb_len R
  generalize hl : zp_dl back R = l at *
  have mem : ∀ y, y ∈ l ↔ bt R y = true := fun y => by rw [← hl]; exact zp_dmem
  have key : ∀ d k (Nx : Nat → Int32), k + d = l.length → (∀ y, y < n → Nx y = zp_b (bt N y || decide (y ∈ l.take k))) → wY_stage_302 post J x1 x2 x3 x4 (nI x) yL yD yI yB yn yfc yfo ypc yrc ybc (nI l.length) (d + 1) (nI k) yord ypar ylab ycell yit yres ybn ybcell ylist ycur Nx yholds := by
    intro d
    induction d with
    | zero =>
      intro k Nx hk g
      have e : k = l.length := by omega
      subst e
      refine br_t (nI_le (Nat.le_refl _) (by omega)) (nm_r (nI_1 x) (h Nx fun y hy => ?_))
      rw [g y hy, List.take_length, b_or]
      congr 2
      exact zb_iff (by rw [decide_eq_true_eq]; exact mem y)
    | succ d ih =>
      intro k Nx hk g
      have hkl : k < l.length := by omega
      have ck : (nI k).toNatClampNeg = k := nI_clamp (by omega)
      have lk := hR _ ((mem _).mp (List.getElem_mem hkl))
      refine br_f (nI_ge (by omega) (by omega)) ?_
      rw [ck, hA k hkl, nI_clamp (by omega)]
      refine ⟨vp_in_nI (by omega) (by omega), vp_in_nI (by omega) (by omega), nm_e (nm_r (nI_1 k) (ih (k + 1) _ (by omega) fun y hy => ?_))⟩
      rw [List.take_succ_eq_append_getElem hkl]
      by_cases z : y = l[k]
      · rw [z, pk_us]
        have : l[k] ∈ l.take k ++ [l[k]] := List.mem_append.mpr (Or.inr (List.mem_singleton.mpr rfl))
        rw [decide_eq_true this, Bool.or_true]
        rfl
      · rw [pk_un z, g y hy]
        congr 2
        apply zb_iff
        rw [decide_eq_true_eq, decide_eq_true_eq, List.mem_append, List.mem_singleton]
        exact ⟨Or.inl, fun w => w.resolve_right z⟩
  refine ⟨l.length + 1, key l.length 0 _ (by omega) fun y hy => ?_⟩
  rw [hN y hy, List.take_zero]
  simp
/-- the predicates of a stage -/
theorem zy_s221 {post : SY → Prop} {J : Int32 → Int32 → Int32 → Int32 → Int32 → Int32 → Int32 → Int32 → Int32 → Int32 → Int32 → Int32 → (Nat → Int32) → (Nat → Int32) → (Nat → Int32) → (Nat → Int32) → (Nat → Int32) → (Nat → Int32) → (Nat → Int32) → (Nat → Int32) → (Nat → Int32) → (Nat → Int32) → (Nat → Int32) → (Nat → Int32) → Prop} {x1 x2 x3 x4 x5 : Int32} {i ns : Nat} {back : Bool} {R : Int32} (hn : n ≤ 32) (hq : q ≤ 20) (hP : zp_path B q code nest mate nd) (I : ∀ j, j < q → yit j = nI (code j)) (Hh : ∀ k, i < k → k < q → zr_H n code S yholds k)
    (h : ∀ A, zr_L (zp_dl back R) A → ∃ f, wY_stage_302 post J x1 x2 x3 x4 x5 yL yD yI yB yn yfc yfo (nI q) yrc ybc (nI (zp_dl back R).length) f 0 yord ypar ylab ycell yit yres ybn ybcell A ycur ynext yholds) :
    ∀ d f j (M : Int32) (A : Nat → Int32), j + d = q → d ≤ f → i < j → ns ≤ nd j → (∀ y, bt M y = true → y < n) → zp_fl q code nest S back ns f j M = R → zr_L (zp_dl back M) A →
      wY_stage_221 post J x1 x2 x3 x4 x5 (d + 1) (nI (nd j - ns)) (nI j) yL yD yI yB yn yfc yfo (nI q) yrc ybc (nI (zp_dl back M).length) yord ypar ylab ycell yit yres ybn ybcell A ycur ynext yholds := by
  intro d
  induction d with
  | zero =>
    intro f j M A hj hf hij hns hM hR hA
    have e : j = q := by omega
    subst e
    have eR : M = R := by
      cases f with
      | zero => exact hR
      | succ f => unfold zp_fl at hR; rw [if_pos (Nat.le_refl _)] at hR; exact hR
    subst eR
    exact br_t (nI_le (Nat.le_refl _) (by omega)) (h A hA)
  | succ d ih =>
    intro f j M A hj hf hij hns hM hR hA
    obtain ⟨f, rfl⟩ : ∃ g, f = g + 1 := ⟨f - 1, by omega⟩
    have hjq : j < q := by omega
    obtain ⟨ck, nk⟩ := hP.1 j hjq
    obtain ⟨d1, d2⟩ := hP.2.2.1 j hjq
    have c1000 := zp_c1000 ck
    have cj : (nI j).toNatClampNeg = j := nI_clamp (by omega)
    have vj : vp_in (nI j) 20 := vp_in_nI (by omega) (by omega)
    have hnd : nd j ≤ 4 := by
      by_cases z : code j = 600
      · rw [if_pos z] at d1; omega
      · rw [if_neg z] at d1; omega
    have t277 : ∀ (M' : Int32) (A' : Nat → Int32), zr_L (zp_dl back M') A' → (∀ y, bt M' y = true → y < n) → (¬ (code j = 600 ∧ nd j = ns) → zp_fl q code nest S back ns f (j + 1) M' = R) → (code j = 600 ∧ nd j = ns → M' = R) →
        wY_stage_277 post J (wY_stage_221 post J x1 x2 x3 x4 x5 (d + 1)) x1 x2 x3 x4 x5 (nI (nd j - ns)) (nI j) yL yD yI yB yn yfc yfo (nI q) yrc ybc (nI (zp_dl back M').length) yord ypar ylab ycell yit yres ybn ybcell A' ycur ynext yholds := by
      intro M' A' a1 a2 a3 a4
      unfold wY_stage_277
      refine ⟨vj, ?_⟩
      rw [cj, I j hjq]
      refine zy_ndn hP hjq hns rfl ⟨fun z => ?_, fun r hr e => nm_r e (nm_r (nI_1 j) ?_)⟩
      · have eM := a4 z
        subst eM
        refine nm_r (e' := -1) (by rw [z.2, Nat.sub_self]; decide) (nm_r (nI_1 j) ?_)
        rcases Nat.lt_or_ge (j + 1) q with w | w
        · exact br_f (nI_ge w (by omega)) (br_t (by decide) (h A' a1))
        · exact br_t (nI_le w (by omega)) (h A' a1)
      · by_cases z : code j = 600 ∧ nd j = ns
        · exfalso
          rw [if_pos z.1] at d1
          rw [if_neg (by omega)] at d2
          omega
        · exact ih f (j + 1) M' A' (by omega) (by omega) (by omega) hr a2 (a3 z) a1
    unfold zp_fl at hR
    rw [if_neg (show ¬ q ≤ j by omega)] at hR
    refine br_f (nI_ge (by omega) (by omega)) (br_f (nI_pos (by omega)) ?_)
    rcases Nat.eq_or_lt_of_le hns with z | z
    · have z0 : nd j - ns = 0 := by omega
      rw [z0] at t277 ⊢
      refine br_f (nI_nlt (a := 0) (b := 0) (by omega) (by omega)) ⟨vj, ?_⟩
      rw [cj, I j hjq]
      refine pk_lt (code j) 300 (fun w => ?_) (fun w => ?_)
      · rw [if_neg (by omega)] at d1
        rw [if_neg (by omega), if_pos (by omega), if_pos w] at hR
        subst hR
        exact h A hA
      · unfold wY_stage_253
        refine br_t rfl ⟨vj, ?_⟩
        rw [cj, I j hjq]
        refine pk_le 600 (code j) (fun w2 => ?_) (fun w2 => ?_)
        · have e6 : code j = 600 := by unfold zp_cok at ck; omega
          rw [if_pos e6] at d1
          rw [if_pos (by omega)] at hR
          exact t277 M A hA hM (fun y => absurd ⟨e6, z.symm⟩ y) (fun _ => hR)
        · rw [if_neg (by omega)] at d1
          rw [if_neg (by omega), if_pos (by omega), if_neg (by omega)] at hR
          have sub : ∀ y, bt (if code j < 500 then zp_pick back M (code j) else M &&& S j) y = true → y < n := by
            intro y hy
            apply hM
            have := zp_flsub (q := j + 1) (code := code) (nest := fun _ => 0) (S := S) (back := back) (ns := 0) 1 j M y
            unfold zp_fl zp_fl at this
            rw [if_neg (by omega), if_neg (by omega), if_pos rfl, if_neg (by omega)] at this
            apply this
            by_cases w3 : code j < 500
            · rw [if_pos w3] at hy ⊢; exact hy
            · rw [if_neg w3] at hy ⊢; rw [if_pos w2]; exact hy
          refine zy_filtM hn hjq hq ck I hA hM w w2 (Hh j hij hjq) fun A' a' => t277 _ A' a' sub (fun _ => ?_) (fun y => by omega)
          by_cases w3 : code j < 500
          · rw [if_pos w3] at hR ⊢; exact hR
          · rw [if_neg w3] at hR ⊢; rw [if_pos w2] at hR; exact hR
    · refine br_t (nI_lt (a := 0) (by omega) (by omega)) ?_
      unfold wY_stage_253
      refine br_f (nI_ne0 (by omega) (by omega)) (t277 M A hA hM (fun _ => ?_) (fun y => by omega))
      by_cases e6 : code j = 600
      · rw [if_pos e6] at d1
        rw [if_neg (by omega)] at hR
        by_cases e7 : nest j = ns
        · rw [if_pos e7, if_neg (by omega), if_neg (by omega), if_neg (by omega)] at hR; exact hR
        · rw [if_neg e7] at hR; exact hR
      · rw [if_neg e6] at d1
        rw [if_neg (by omega), if_neg (by omega)] at hR; exact hR
end
end
section
section
variable {yL yD yI yB yn yfc yfo ypc yrc ybc ylc : Int32} {yord ypar ylab ycell yit yres ybn ybcell ylist ycur ynext yholds : Nat → Int32}
variable {L D B n q : Nat} {ord lev lab sz pr code nest mate nd : Nat → Nat} {S : Nat → Int32}
/-- one node tested for the list -/
theorem zy_s170 {post : SY → Prop} {J : Int32 → Int32 → Int32 → Int32 → Int32 → Int32 → Int32 → Int32 → Int32 → Int32 → Int32 → Int32 → (Nat → Int32) → (Nat → Int32) → (Nat → Int32) → (Nat → Int32) → (Nat → Int32) → (Nat → Int32) → (Nat → Int32) → (Nat → Int32) → (Nat → Int32) → (Nat → Int32) → (Nat → Int32) → (Nat → Int32) → Prop}
    {K : Int32 → Int32 → (Nat → Int32) → (Nat → Int32) → (Nat → Int32) → (Nat → Int32) → (Nat → Int32) → (Nat → Int32) → (Nat → Int32) → (Nat → Int32) → (Nat → Int32) → (Nat → Int32) → (Nat → Int32) → (Nat → Int32) → Prop} {x1 x3 x4 : Int32} {ax x k y : Nat} {ft : Bool} {l : List Nat}
    (T : zr_T L D B n ord lev lab sz pr) (Y : zr_Y n ord lab pr yord ypar ylab) (hax : ax ≤ 10) (hx : x < n) (hy : y < n) (hl : l.length < 32) (hA : zr_L l ylist)
    (h : ∀ A, zr_L (if (ft && zp_bel sz pr ax x y) = true then l ++ [y] else l) A → K (nI (k + 1)) (nI (if (ft && zp_bel sz pr ax x y) = true then l ++ [y] else l).length) yord ypar ylab ycell yit yres ybn ybcell A ycur ynext yholds) :
    wY_stage_170 post J K x1 (nI ax) x3 x4 (nI x) (nI k) (nI y) (zp_b ft) yL yD yI yB (nI n) yfc yfo ypc yrc ybc (nI l.length) yord ypar ylab ycell yit yres ybn ybcell ylist ycur ynext yholds := by
  unfold wY_stage_170
  cases ft
  · exact br_t rfl (nm_r (nI_1 k) (h ylist hA))
  · refine br_f (by decide) (zy_belongs T Y hax hx hy ?_)
    rw [Bool.true_and] at h
    cases e : zp_bel sz pr ax x y
    · rw [e] at h
      exact br_t rfl (nm_r (nI_1 k) (h ylist hA))
    · rw [e, if_pos rfl] at h
      have cl : (nI l.length).toNatClampNeg = l.length := nI_clamp (by omega)
      refine br_f (by decide) (nm_r (nI_1 l.length) ⟨vp_in_nI (by omega) (by omega), nm_r (e' := upd ylist l.length (nI y)) (by rw [cl]) (nm_r (nI_1 k) ?_)⟩)
      have := h (upd ylist l.length (nI y)) (zr_Lput hA)
      rw [List.length_append] at this
      exact this
theorem zy_s142 {post : SY → Prop} {J : Int32 → Int32 → Int32 → Int32 → Int32 → Int32 → Int32 → Int32 → Int32 → Int32 → Int32 → Int32 → (Nat → Int32) → (Nat → Int32) → (Nat → Int32) → (Nat → Int32) → (Nat → Int32) → (Nat → Int32) → (Nat → Int32) → (Nat → Int32) → (Nat → Int32) → (Nat → Int32) → (Nat → Int32) → (Nat → Int32) → Prop}
    {K : Int32 → Int32 → (Nat → Int32) → (Nat → Int32) → (Nat → Int32) → (Nat → Int32) → (Nat → Int32) → (Nat → Int32) → (Nat → Int32) → (Nat → Int32) → (Nat → Int32) → (Nat → Int32) → (Nat → Int32) → (Nat → Int32) → Prop} {x1 x4 : Int32} {ax w x k y : Nat} {l : List Nat}
    (T : zr_T L D B n ord lev lab sz pr) (Y : zr_Y n ord lab pr yord ypar ylab) (hax : ax ≤ 10) (hw : w ≤ 6) (hx : x < n) (hy : y < n) (hl : l.length < 32) (hA : zr_L l ylist)
    (h : ∀ A, zr_L (if (zp_bel sz pr ax x y && (w == 0 || lab y + 1 == w)) = true then l ++ [y] else l) A → K (nI (k + 1)) (nI (if (zp_bel sz pr ax x y && (w == 0 || lab y + 1 == w)) = true then l ++ [y] else l).length) yord ypar ylab ycell yit yres ybn ybcell A ycur ynext yholds) :
    wY_stage_142 post J K x1 (nI ax) (nI w - 1) x4 (nI x) (nI k) (nI y) yL yD yI yB (nI n) yfc yfo ypc yrc ybc (nI l.length) yord ypar ylab ycell yit yres ybn ybcell ylist ycur ynext yholds := by
  have hb := T.2.1
  have oy := T.2.2.2.1 y hy
  rw [Bool.and_comm] at h
  unfold wY_stage_142
  by_cases w0 : w = 0
  · subst w0
    refine br_t (by decide) ?_
    unfold wY_stage_165
    exact zy_s170 (ft := true) T Y hax hx hy hl hA h
  · have e1 : nI w - 1 = nI (w - 1) := by rw [show w = (w - 1) + 1 by omega]; exact nI_pred _
    have ne : ¬ nI (w - 1) = -1 := fun e => by
      have : nI (w - 1) < 0 := by rw [e]; decide
      exact nI_pos (by omega) this
    have e0 : (w == 0) = false := by simp [w0]
    rw [e0, Bool.false_or] at h
    rw [e1]
    have cy : (nI y).toNatClampNeg = y := nI_clamp (by omega)
    have coy : (nI (ord y)).toNatClampNeg = ord y := nI_clamp (by omega)
    refine br_f ne ⟨vp_in_nI (by omega) (by omega), ?_⟩
    rw [cy, Y.1 y hy, coy, Y.2.2 y hy]
    refine ⟨vp_in_nI (by omega) (by omega), pk_eq (lab y) (w - 1) (fun z => ?_) (fun z => ?_)⟩
    · have e2 : (lab y + 1 == w) = true := by simp; omega
      rw [e2] at h
      unfold wY_stage_165
      exact zy_s170 (ft := true) T Y hax hx hy hl hA h
    · have e2 : (lab y + 1 == w) = false := by simp; omega
      rw [e2] at h
      exact zy_s170 (ft := false) T Y hax hx hy hl hA h
/-- the value from one node, into next -/
theorem zy_s104 {post : SY → Prop} {J : Int32 → Int32 → Int32 → Int32 → Int32 → Int32 → Int32 → Int32 → Int32 → Int32 → Int32 → Int32 → (Nat → Int32) → (Nat → Int32) → (Nat → Int32) → (Nat → Int32) → (Nat → Int32) → (Nat → Int32) → (Nat → Int32) → (Nat → Int32) → (Nat → Int32) → (Nat → Int32) → (Nat → Int32) → (Nat → Int32) → Prop} {i x : Nat} {C N : Int32}
    (T : zr_T L D B n ord lev lab sz pr) (Y : zr_Y n ord lab pr yord ypar ylab) (hq : q ≤ 20) (hP : zp_path B q code nest mate nd) (I : ∀ j, j < q → yit j = nI (code j)) (hi : i < q) (hc : code i < 300) (Hh : ∀ k, i < k → k < q → zr_H n code S yholds k) (hx : x < n) (hC : ycur x = zp_b (bt C x)) (hN : ∀ y, y < n → ynext y = zp_b (bt N y))
    (h : ∀ lc A Nx, (∀ y, y < n → Nx y = zp_b (bt (if bt C x = true then N ||| zp_sv n q lab sz pr code nest S i x else N) y)) → J (nI (x + 1)) yL yD yI yB (nI n) yfc yfo (nI q) yrc ybc lc yord ypar ylab ycell yit yres ybn ybcell A ycur Nx yholds) :
    ∃ f, wY_stage_104 post J (nI i) (nI (zp_ax (code i))) (nI (zp_w (code i)) - 1) (zp_b (zp_rev (zp_ax (code i)))) (nI x) yL yD yI yB (nI n) yfc yfo (nI q) yrc ybc f 0 0 yord ypar ylab ycell yit yres ybn ybcell ylist ycur ynext yholds := by
  have hb := T.2.1
  obtain ⟨ck, nk⟩ := hP.1 i hi
  obtain ⟨d1, d2⟩ := hP.2.2.1 i hi
  rw [if_neg (by omega)] at d1 d2
  have hcc : 100 ≤ code i ∧ (code i - 100) / 10 ≤ 10 ∧ (code i - 100) % 10 ≤ B := by unfold zp_cok at ck; omega
  have hax : zp_ax (code i) ≤ 10 := hcc.2.1
  have hw : zp_w (code i) ≤ 6 := Nat.le_trans hcc.2.2 hb.2.2.2
  have cx : (nI x).toNatClampNeg = x := nI_clamp (by omega)
  have vx : vp_in (nI x) 32 := vp_in_nI (by omega) (by omega)
  -- the predicates, from a list that shows M
  have go : ∀ (M : Int32) (A : Nat → Int32), (∀ y, bt M y = true → y < n) → zr_L (zp_dl (zp_rev (zp_ax (code i))) M) A → (N ||| zp_fl q code nest S (zp_rev (zp_ax (code i))) (nest i) q (i + 1) M = if bt C x = true then N ||| zp_sv n q lab sz pr code nest S i x else N) →
      ∃ f, wY_stage_221 post J (nI i) (nI (zp_ax (code i))) (nI (zp_w (code i)) - 1) (zp_b (zp_rev (zp_ax (code i)))) (nI x) f 0 (nI (i + 1)) yL yD yI yB (nI n) yfc yfo (nI q) yrc ybc (nI (zp_dl (zp_rev (zp_ax (code i))) M).length) yord ypar ylab ycell yit yres ybn ybcell A ycur ynext yholds := by
    intro M A hM hA hE
    have hs : ∀ y, bt (zp_fl q code nest S (zp_rev (zp_ax (code i))) (nest i) q (i + 1) M) y = true → y < n := fun y hy => hM y (zp_flsub _ _ _ _ hy)
    have := zy_s221 (post := post) (J := J) (x1 := nI i) (x2 := nI (zp_ax (code i))) (x3 := nI (zp_w (code i)) - 1) (x4 := zp_b (zp_rev (zp_ax (code i)))) (x5 := nI x) (i := i) (ns := nest i) (by omega) hq hP I Hh (fun A' a' => zy_s302 (by omega) hs a' hN fun Nx hNx => h _ A' Nx (by rw [hE] at hNx; exact hNx)) (q - (i + 1)) q (i + 1) M A (by omega) (by omega) (by omega) (by omega) hM rfl hA
    rw [show nd (i + 1) - nest i = 0 by omega] at this
    exact ⟨_, this⟩
  cases hbC : bt C x
  · rw [hbC] at go hC
    refine ⟨1, br_f (nI_ge (a := 0) (by omega) (by omega)) ⟨vx, ?_⟩⟩
    rw [cx, hC]
    refine br_t rfl (nm_r (nI_1 i) ?_)
    have := go 0 ylist (fun y hy => by rw [b_0] at hy; exact absurd hy (by decide)) (by rw [zp_dl0]; exact fun k hk => absurd hk (Nat.not_lt_zero k)) (by
      rw [zp_fl0, if_neg (by decide)]
      exact b_ext fun b _ => by rw [b_or, b_0, Bool.or_false])
    rw [zp_dl0] at this
    exact this
  · rw [hbC] at go hC
    obtain ⟨back, hback⟩ : ∃ b, b = zp_rev (zp_ax (code i)) := ⟨_, rfl⟩
    rw [← hback] at go ⊢
    have fin : zp_kp (fun k => (fun y => zp_bel sz pr (zp_ax (code i)) x y && (zp_w (code i) == 0 || lab y + 1 == zp_w (code i))) (if back = true then n - 1 - k else k)) (fun k => if back = true then n - 1 - k else k) n = zp_dl back (zp_m0 n lab sz pr (code i) x) := zp_kpm (n := n) (fun y => zp_bel sz pr (zp_ax (code i)) x y && (zp_w (code i) == 0 || lab y + 1 == zp_w (code i))) back (by omega)
    have key : ∀ d k (A : Nat → Int32), k + d = n → zr_L (zp_kp (fun k => (fun y => zp_bel sz pr (zp_ax (code i)) x y && (zp_w (code i) == 0 || lab y + 1 == zp_w (code i))) (if back = true then n - 1 - k else k)) (fun k => if back = true then n - 1 - k else k) k) A →
        wY_stage_104 post J (nI i) (nI (zp_ax (code i))) (nI (zp_w (code i)) - 1) (zp_b back) (nI x) yL yD yI yB (nI n) yfc yfo (nI q) yrc ybc (d + 1) (nI k) (nI (zp_kp (fun k => (fun y => zp_bel sz pr (zp_ax (code i)) x y && (zp_w (code i) == 0 || lab y + 1 == zp_w (code i))) (if back = true then n - 1 - k else k)) (fun k => if back = true then n - 1 - k else k) k).length) yord ypar ylab ycell yit yres ybn ybcell A ycur ynext yholds := by
      intro d
      induction d with
      | zero =>
        intro k A hk hA
        have e : k = n := by omega
        subst e
        rw [fin] at hA ⊢
        exact br_t (nI_le (Nat.le_refl _) (by omega)) (nm_r (nI_1 i) (go _ A (fun y hy => by
          have h32 : y < 32 := (zb_mem.mp (zb_mem'.mpr hy)).1
          exact ((zb_mkb _ (by omega) h32).mp hy).1) hA (by rw [if_pos rfl]; unfold zp_sv; rw [← hback])))
      | succ d ih =>
        intro k A hk hA
        have kl := zp_kpl (fun k => (fun y => zp_bel sz pr (zp_ax (code i)) x y && (zp_w (code i) == 0 || lab y + 1 == zp_w (code i))) (if back = true then n - 1 - k else k)) (fun k => if back = true then n - 1 - k else k) k
        refine br_f (nI_ge (by omega) (by omega)) ⟨vx, ?_⟩
        rw [cx, hC]
        refine br_f (by decide) ?_
        have ihk := fun A => ih (k + 1) A (by omega)
        rw [show ∀ (kp : Nat → Bool) (g : Nat → Nat), zp_kp kp g (k + 1) = if kp k = true then zp_kp kp g k ++ [g k] else zp_kp kp g k from fun _ _ => rfl] at ihk
        cases hbk : back
        · rw [hbk] at ihk kl hA
          exact br_t rfl (zy_s142 T Y hax hw hx (show k < n by omega) (by omega) hA ihk)
        · rw [hbk] at ihk kl hA
          have e : nI n - 1 - nI k = nI (n - 1 - k) := by
            rw [show nI n - 1 = nI (n - 1) by rw [show n = (n - 1) + 1 by omega]; exact nI_pred _, pk_sub (by omega)]
          refine br_f (by decide) ?_
          rw [e]
          exact zy_s142 T Y hax hw hx (show n - 1 - k < n by omega) (by omega) hA ihk
    exact ⟨n + 1, key n 0 ylist (by omega) (fun k hk => absurd hk (Nat.not_lt_zero k))⟩
theorem zy_stage {post : SY → Prop} {i : Nat} {C : Int32}
    (T : zr_T L D B n ord lev lab sz pr) (Y : zr_Y n ord lab pr yord ypar ylab) (hq : q ≤ 20) (hP : zp_path B q code nest mate nd) (I : ∀ j, j < q → yit j = nI (code j)) (hi : i < q) (hc : code i < 300) (Hh : ∀ k, i < k → k < q → zr_H n code S yholds k) (hC : ∀ y, y < n → ycur y = zp_b (bt C y))
    (h : ∀ lc A Cu Nx, (∀ y, y < n → Cu y = zp_b (bt (zp_sf (zp_sv n q lab sz pr code nest S i) C n) y)) → post (yL, yD, yI, yB, nI n, yfc, yfo, nI q, yrc, ybc, lc, yord, ypar, ylab, ycell, yit, yres, ybn, ybcell, A, Cu, Nx, yholds)) : wpY_stage post (yL, yD, yI, yB, nI n, yfc, yfo, nI q, yrc, ybc, ylc, yord, ypar, ylab, ycell, yit, yres, ybn, ybcell, ylist, ycur, ynext, yholds) (nI i) := by
  have hb := T.2.1
  obtain ⟨ck, nk⟩ := hP.1 i hi
  have hcc : 100 ≤ code i ∧ (code i - 100) / 10 ≤ 10 ∧ (code i - 100) % 10 ≤ B := by unfold zp_cok at ck; omega
  have hax : zp_ax (code i) ≤ 10 := hcc.2.1
  have ci : (nI i).toNatClampNeg = i := nI_clamp (by omega)
  have vi : vp_in (nI i) 20 := vp_in_nI (by omega) (by omega)
  have e100 : nI (code i) - 100 = nI (code i - 100) := pk_sub (b := 100) hcc.1
  have ed : nI (code i - 100) / 10 = nI (zp_ax (code i)) := pk_div (d := 10) (by omega) (by omega) (by omega)
  have er : nI (code i - 100) - nI (code i - 100) / 10 * 10 = nI (zp_w (code i)) := pk_rem (d := 10) (by omega) (by omega) (by omega)
  -- the last loop
  have k339 : ∀ (lc : Int32) (A Nx : Nat → Int32), (∀ y, y < n → Nx y = zp_b (bt (zp_sf (zp_sv n q lab sz pr code nest S i) C n) y)) → ∃ f, wY_stage_339 post yL yD yI yB (nI n) yfc yfo (nI q) yrc ybc lc f 0 yord ypar ylab ycell yit yres ybn ybcell A ycur Nx yholds := by
    intro lc A Nx hNx
    have key : ∀ d k (Cu : Nat → Int32), k + d = n → (∀ y, y < k → Cu y = zp_b (bt (zp_sf (zp_sv n q lab sz pr code nest S i) C n) y)) → wY_stage_339 post yL yD yI yB (nI n) yfc yfo (nI q) yrc ybc lc (d + 1) (nI k) yord ypar ylab ycell yit yres ybn ybcell A Cu Nx yholds := by
      intro d
      induction d with
      | zero =>
        intro k Cu hk g
        have e : k = n := by omega
        subst e
        exact br_t (nI_le (Nat.le_refl _) (by omega)) (h lc A Cu Nx g)
      | succ d ih =>
        intro k Cu hk g
        have ck : (nI k).toNatClampNeg = k := nI_clamp (by omega)
        refine br_f (nI_ge (by omega) (by omega)) ⟨vp_in_nI (by omega) (by omega), vp_in_nI (by omega) (by omega), nm_e (nm_r (nI_1 k) (ih (k + 1) _ (by omega) ?_))⟩
        rw [ck, hNx k (by omega)]
        refine lt_s (fun y hy => ?_) ?_
        · rw [pk_un (by omega)]; exact g y hy
        · rw [pk_us]
          cases bt (zp_sf (zp_sv n q lab sz pr code nest S i) C n) k <;> rfl
    exact ⟨n + 1, key n 0 _ (by omega) lt_0⟩
  -- the loop over the set
  have k87 : ∀ d x (lc : Int32) (A Nx : Nat → Int32), x + d = n → (∀ y, y < n → Nx y = zp_b (bt (zp_sf (zp_sv n q lab sz pr code nest S i) C x) y)) → wY_stage_87 post (nI i) (nI (zp_ax (code i))) (nI (zp_w (code i)) - 1) (zp_b (zp_rev (zp_ax (code i)))) (d + 1) (nI x) yL yD yI yB (nI n) yfc yfo (nI q) yrc ybc lc yord ypar ylab ycell yit yres ybn ybcell A ycur Nx yholds := by
    intro d
    induction d with
    | zero =>
      intro x lc A Nx hx g
      have e : x = n := by omega
      subst e
      exact br_t (nI_le (Nat.le_refl _) (by omega)) (k339 lc A Nx g)
    | succ d ih =>
      intro x lc A Nx hx g
      refine br_f (nI_ge (by omega) (by omega)) (zy_s104 T Y hq hP I hi hc Hh (show x < n by omega) (hC x (by omega)) g fun lc' A' Nx' g' => ih (x + 1) lc' A' Nx' (by omega) g')
  -- next is cleared
  have k61 : ∃ f, wY_stage_61 post (nI i) (nI (zp_ax (code i))) (nI (zp_w (code i)) - 1) (zp_b (zp_rev (zp_ax (code i)))) yL yD yI yB (nI n) yfc yfo (nI q) yrc ybc ylc f 0 yord ypar ylab ycell yit yres ybn ybcell ylist ycur ynext yholds := by
    have key : ∀ d k (Nx : Nat → Int32), k + d = n → (∀ y, y < k → Nx y = 0) → wY_stage_61 post (nI i) (nI (zp_ax (code i))) (nI (zp_w (code i)) - 1) (zp_b (zp_rev (zp_ax (code i)))) yL yD yI yB (nI n) yfc yfo (nI q) yrc ybc ylc (d + 1) (nI k) yord ypar ylab ycell yit yres ybn ybcell ylist ycur Nx yholds := by
      intro d
      induction d with
      | zero =>
        intro k Nx hk g
        have e : k = n := by omega
        subst e
        refine br_t (nI_le (Nat.le_refl _) (by omega)) ⟨k + 1, k87 k 0 ylc ylist Nx (by omega) fun y hy => ?_⟩
        rw [g y hy]
        show (0 : Int32) = zp_b (bt 0 y)
        rw [b_0]; rfl
      | succ d ih =>
        intro k Nx hk g
        have ck : (nI k).toNatClampNeg = k := nI_clamp (by omega)
        refine br_f (nI_ge (by omega) (by omega)) ⟨vp_in_nI (by omega) (by omega), nm_e (nm_r (nI_1 k) (ih (k + 1) _ (by omega) ?_))⟩
        rw [ck]
        refine lt_s (fun y hy => ?_) ?_
        · rw [pk_un (by omega)]; exact g y hy
        · rw [pk_us]; rfl
    exact ⟨n + 1, key n 0 _ (by omega) lt_0⟩
  unfold wpY_stage
  refine ⟨vi, by decide, nm_r (e' := nI (zp_ax (code i))) (by rw [ci, I i hi, e100, ed]) ⟨vi, by decide, nm_r (e' := nI (zp_w (code i)) - 1) (by rw [ci, I i hi, e100, er]) ?_⟩⟩
  have r39 : ¬ (4 ≤ zp_ax (code i) ∧ zp_ax (code i) ≤ 6) → wY_stage_39 post (nI i) (nI (zp_ax (code i))) (nI (zp_w (code i)) - 1) yL yD yI yB (nI n) yfc yfo (nI q) yrc ybc ylc yord ypar ylab ycell yit yres ybn ybcell ylist ycur ynext yholds := by
    intro z
    unfold wY_stage_39
    refine pk_eq (zp_ax (code i)) 8 (fun w => ?_) (fun w => pk_eq (zp_ax (code i)) 10 (fun w2 => ?_) (fun w2 => ?_))
    · rw [show zp_rev (zp_ax (code i)) = true from decide_eq_true (by omega)] at k61; exact k61
    · rw [show zp_rev (zp_ax (code i)) = true from decide_eq_true (by omega)] at k61; exact k61
    · rw [show zp_rev (zp_ax (code i)) = false from decide_eq_false (by omega)] at k61; exact k61
  refine pk_lt (zp_ax (code i)) 4 (fun z => r39 (by omega)) (fun z => pk_le (zp_ax (code i)) 6 (fun z2 => ?_) (fun z2 => r39 (by omega)))
  rw [show zp_rev (zp_ax (code i)) = true from decide_eq_true (by omega)] at k61; exact k61
end
end
section
/-! ===== Y: walk and run ===== -/
theorem zp_svn {n q : Nat} {lab sz pr code nest : Nat → Nat} {S : Nat → Int32} {i x y : Nat} (hn : n ≤ 32) (h : bt (zp_sv n q lab sz pr code nest S i x) y = true) : y < n := by
  unfold zp_sv at h
  have h1 := zp_flsub _ _ _ _ h
  have h32 : y < 32 := (zb_mem.mp (zb_mem'.mpr h1)).1
  exact ((zb_mkb _ hn h32).mp h1).1
theorem zp_Fn {n q : Nat} {lab sz pr code nest : Nat → Nat} {S : Nat → Int32} {lv i : Nat} {C : Int32} (hn : n ≤ 32) (hC : ∀ y, bt C y = true → y < n) : ∀ y, bt (zp_F n q lab sz pr code nest S lv i C) y = true → y < n := by
  intro y h
  unfold zp_F at h
  by_cases c : nest i = lv ∧ code i < 300
  · rw [if_pos c] at h
    obtain ⟨x, h1, h2, h3⟩ := zp_sfb.mp h
    exact zp_svn hn h3
  · rw [if_neg c] at h; exact hC y h
theorem zp_fwn {n q : Nat} {lab sz pr code nest : Nat → Nat} {S : Nat → Int32} {lv lo : Nat} {C : Int32} (hn : n ≤ 32) (hC : ∀ y, bt C y = true → y < n) : ∀ d y, bt (zp_fw (zp_F n q lab sz pr code nest S lv) lo d C) y = true → y < n
  | 0, y, h => hC y h
  | d + 1, y, h => zp_Fn hn (zp_fwn hn hC d) y h
section
variable {yL yD yI yB yn yfc yfo ypc yrc ybc ylc : Int32} {yord ypar ylab ycell yit yres ybn ybcell ylist ycur ynext yholds : Nat → Int32}
variable {L D B n q : Nat} {ord lev lab sz pr code nest mate nd : Nat → Nat} {S : Nat → Int32}
theorem zy_walk {post : SY → Prop} {lo e lv : Nat} {C : Int32}
    (T : zr_T L D B n ord lev lab sz pr) (Y : zr_Y n ord lab pr yord ypar ylab) (hq : q ≤ 20) (hP : zp_path B q code nest mate nd) (I : ∀ j, j < q → yit j = nI (code j)) (Hh : ∀ k, lo ≤ k → k < q → zr_H n code S yholds k)
    (hloe : lo ≤ e) (heq : e ≤ q) (hlv : nd lo = lv) (hin : ∀ k, lo ≤ k → k ≤ e → lv ≤ nd k) (hend : e = q ∨ (e < q ∧ code e = 600 ∧ nd e = lv)) (hC : ∀ y, y < n → ycur y = zp_b (bt C y))
    (h : ∀ lc A Cu Nx, (∀ y, y < n → Cu y = zp_b (bt (zp_fw (zp_F n q lab sz pr code nest S lv) lo (e - lo) C) y)) → post (yL, yD, yI, yB, nI n, yfc, yfo, nI q, yrc, ybc, lc, yord, ypar, ylab, ycell, yit, yres, ybn, ybcell, A, Cu, Nx, yholds)) : wpY_walk post (yL, yD, yI, yB, nI n, yfc, yfo, nI q, yrc, ybc, ylc, yord, ypar, ylab, ycell, yit, yres, ybn, ybcell, ylist, ycur, ynext, yholds) (nI lo) := by
  have key : ∀ d i (lc : Int32) (A Cu Nx : Nat → Int32), i + d = e → lo ≤ i → (∀ y, y < n → Cu y = zp_b (bt (zp_fw (zp_F n q lab sz pr code nest S lv) lo (i - lo) C) y)) →
      wY_walk_4 post (d + 2) (nI (nd i - lv)) (nI i) yL yD yI yB (nI n) yfc yfo (nI q) yrc ybc lc yord ypar ylab ycell yit yres ybn ybcell A Cu Nx yholds := by
    intro d
    induction d with
    | zero =>
      intro i lc A Cu Nx hi hlo g
      have ei : i = e := by omega
      subst ei
      rcases hend with z | ⟨z1, z2, z3⟩
      · exact br_t (by rw [z]; exact nI_le (Nat.le_refl _) (by omega)) (h lc A Cu Nx g)
      · have ci : (nI i).toNatClampNeg = i := nI_clamp (by omega)
        have vi : vp_in (nI i) 20 := vp_in_nI (by omega) (by omega)
        rw [z3, Nat.sub_self]
        refine br_f (nI_ge (by omega) (by omega)) (br_f (nI_pos (by omega)) (br_t rfl ⟨vi, ?_⟩))
        rw [ci, I i z1, z2]
        refine br_t (by decide) ?_
        unfold wY_walk_37
        refine ⟨vi, ?_⟩
        rw [ci, I i z1, z2]
        refine zy_nest (B := B) (by unfold zp_cok; omega) (fun _ => nm_r (e' := -1) (by decide) (nm_r (nI_1 i) ?_)) (fun w => by omega) (fun w => by omega)
        rcases Nat.lt_or_ge (i + 1) q with w | w
        · exact br_f (nI_ge w (by omega)) (br_t (by decide) (h lc A Cu Nx g))
        · exact br_t (nI_le w (by omega)) (h lc A Cu Nx g)
    | succ d ih =>
      intro i lc A Cu Nx hi hlo g
      have hiq : i < q := by omega
      obtain ⟨ck, nk⟩ := hP.1 i hiq
      obtain ⟨d1, d2⟩ := hP.2.2.1 i hiq
      have c1000 := zp_c1000 ck
      have ci : (nI i).toNatClampNeg = i := nI_clamp (by omega)
      have vi : vp_in (nI i) 20 := vp_in_nI (by omega) (by omega)
      have l1 := hin i hlo (by omega)
      have l2 := hin (i + 1) (by omega) (by omega)
      have hnd : nd i ≤ 4 := by
        by_cases z : code i = 600
        · rw [if_pos z] at d1; omega
        · rw [if_neg z] at d1; omega
      have step : zp_fw (zp_F n q lab sz pr code nest S lv) lo (i + 1 - lo) C = zp_F n q lab sz pr code nest S lv i (zp_fw (zp_F n q lab sz pr code nest S lv) lo (i - lo) C) := by
        rw [show i + 1 - lo = (i - lo) + 1 by omega]
        show zp_F n q lab sz pr code nest S lv (lo + (i - lo)) _ = _
        rw [show lo + (i - lo) = i by omega]
      have t37 : ∀ (lc' : Int32) (A' Cu' Nx' : Nat → Int32), (∀ y, y < n → Cu' y = zp_b (bt (zp_fw (zp_F n q lab sz pr code nest S lv) lo (i + 1 - lo) C) y)) → wY_walk_37 post (wY_walk_4 post (d + 2)) (nI (nd i - lv)) (nI i) yL yD yI yB (nI n) yfc yfo (nI q) yrc ybc lc' yord ypar ylab ycell yit yres ybn ybcell A' Cu' Nx' yholds := by
        intro lc' A' Cu' Nx' g'
        unfold wY_walk_37
        refine ⟨vi, ?_⟩
        rw [ci, I i hiq]
        refine zy_ndn hP hiq l1 rfl ⟨fun w => ?_, fun r hr er => nm_r er (nm_r (nI_1 i) (ih (i + 1) lc' A' Cu' Nx' (by omega) (by omega) g'))⟩
        exfalso
        rw [if_pos w.1] at d1
        rw [if_neg (by omega)] at d2
        omega
      refine br_f (nI_ge (by omega) (by omega)) (br_f (nI_pos (by omega)) ?_)
      rcases Nat.eq_or_lt_of_le l1 with z | z
      · have z0 : nd i - lv = 0 := by omega
        rw [z0] at t37 ⊢
        refine br_t rfl ⟨vi, ?_⟩
        rw [ci, I i hiq]
        refine pk_le 300 (code i) (fun w => t37 lc A Cu Nx ?_) (fun w => ?_)
        · have e1 : zp_F n q lab sz pr code nest S lv i (zp_fw (zp_F n q lab sz pr code nest S lv) lo (i - lo) C) = zp_fw (zp_F n q lab sz pr code nest S lv) lo (i - lo) C := by unfold zp_F; rw [if_neg (by omega)]
          rw [step, e1]; exact g
        · rw [if_neg (by omega)] at d1
          have e1 : zp_F n q lab sz pr code nest S lv i (zp_fw (zp_F n q lab sz pr code nest S lv) lo (i - lo) C) = zp_sf (zp_sv n q lab sz pr code nest S i) (zp_fw (zp_F n q lab sz pr code nest S lv) lo (i - lo) C) n := by unfold zp_F; rw [if_pos (by omega)]
          refine zy_stage T Y hq hP I hiq w (fun k k1 k2 => Hh k (by omega) k2) g fun lc' A' Cu' Nx' g' => t37 lc' A' Cu' Nx' ?_
          rw [step, e1]; exact g'
      · refine br_f (nI_ne0 (by omega) (by omega)) (t37 lc A Cu Nx ?_)
        have e1 : zp_F n q lab sz pr code nest S lv i (zp_fw (zp_F n q lab sz pr code nest S lv) lo (i - lo) C) = zp_fw (zp_F n q lab sz pr code nest S lv) lo (i - lo) C := by
          unfold zp_F
          rw [if_neg]
          rintro ⟨w1, w2⟩
          rw [if_neg (by omega)] at d1
          omega
        rw [step, e1]; exact g
  unfold wpY_walk
  have := key (e - lo) lo ylc ylist ycur ynext (by omega) (Nat.le_refl _) (by rw [Nat.sub_self]; exact hC)
  rw [hlv, Nat.sub_self] at this
  exact ⟨_, this⟩
/-- an opening, one node: holds is set -/
theorem zy_r74 {post : Int32 → SY → Prop} {J43 J49 : Int32 → Int32 → Int32 → Int32 → Int32 → Int32 → Int32 → Int32 → Int32 → Int32 → Int32 → Int32 → (Nat → Int32) → (Nat → Int32) → (Nat → Int32) → (Nat → Int32) → (Nat → Int32) → (Nat → Int32) → (Nat → Int32) → (Nat → Int32) → (Nat → Int32) → (Nat → Int32) → (Nat → Int32) → (Nat → Int32) → Prop} {x1 : Int32} {o c x : Nat}
    (T : zr_T L D B n ord lev lab sz pr) (Y : zr_Y n ord lab pr yord ypar ylab) (hq : q ≤ 20) (hP : zp_path B q code nest mate nd) (I : ∀ j, j < q → yit j = nI (code j)) (Hh : ∀ k, o < k → k < q → zr_H n code S yholds k)
    (hE : zp_E n q lab sz pr code nest mate S q) (hcq : c < q) (hc6 : code c = 600) (hmo : mate c = o) (hx : x < n)
    (h : ∀ lc A Cu Nx Ho, (∀ k, k ≠ 32 * o + x → Ho k = yholds k) → Ho (32 * o + x) = zp_b (if code o = 501 then bt (S o) x else !(bt (S o) x)) → J49 (nI (x + 1)) yL yD yI yB (nI n) yfc yfo (nI q) yrc ybc lc yord ypar ylab ycell yit yres ybn ybcell A Cu Nx Ho) :
    ∃ f, wY_run_74 post J43 J49 x1 (nI o) (nI x) yL yD yI yB (nI n) yfc yfo (nI q) yrc ybc ylc f 0 yord ypar ylab ycell yit yres ybn ybcell ylist ycur ynext yholds := by
  have hb := T.2.1
  obtain ⟨m1, m2, m3, m4⟩ := hP.2.2.2 c hcq hc6
  rw [hmo] at m1 m2 m3 m4
  have hoq : o < q := by omega
  have eS := hE c hcq hc6
  rw [hmo] at eS
  have do1 := (hP.2.2.1 o hoq)
  rw [if_neg (by omega), if_pos m2] at do1
  have dc := (hP.2.2.1 c hcq)
  rw [if_pos hc6] at dc
  have idx : (32 : Int32) * nI o + nI x = nI (32 * o + x) := by rw [show (32 : Int32) = nI 32 from rfl, pk_mul, nI_add]
  have cidx : (nI (32 * o + x)).toNatClampNeg = 32 * o + x := nI_clamp (by omega)
  have vidx : vp_in (nI (32 * o + x)) 640 := vp_in_nI (by omega) (by omega)
  -- the value
  obtain ⟨R, hRd⟩ : ∃ R, R = zp_fw (zp_F n q lab sz pr code nest S (nest c + 1)) (o + 1) (c - (o + 1)) (zb_1 x) := ⟨_, rfl⟩
  have hRn : ∀ y, bt R y = true → y < n := by
    rw [hRd]
    exact zp_fwn (by omega) (fun y hy => by
      have h32 : y < 32 := (zb_mem.mp (zb_mem'.mpr hy)).1
      rw [zb_1b (by omega) h32] at hy
      rw [of_decide_eq_true hy]; exact hx) _
  have found : bt (zp_found n q lab sz pr code nest S o c) x = true ↔ ∃ y, y < n ∧ bt R y = true := by
    have du := zp_duals (zp_FB (q := q) (lab := lab) (sz := sz) (pr := pr) (code := code) (nest := nest) (S := S) (lv := nest c + 1) (show n ≤ 32 by omega)) (o + 1) (c - (o + 1)) (zb_1 x) (zb_lo n)
    rw [show o + 1 + (c - (o + 1)) = c by omega, ← hRd, zb_meet, zb_meet] at du
    unfold zp_found
    rw [show c - 1 - o = c - (o + 1) by omega]
    constructor
    · intro hf
      obtain ⟨y, y1, y2, y3⟩ := du.mpr ⟨x, by omega, by rw [zb_1b (by omega) (by omega)]; exact decide_eq_true rfl, hf⟩
      exact ⟨y, hRn y y2, y2⟩
    · rintro ⟨y, y1, y2⟩
      obtain ⟨z, z1, z2, z3⟩ := du.mp ⟨y, by omega, y2, by rw [zb_lob (by omega)]; exact decide_eq_true y1⟩
      rw [zb_1b (by omega) z1] at z2
      rw [of_decide_eq_true z2] at z3
      exact z3
  have val : (if code o = 501 then bt (S o) x else !(bt (S o) x)) = bt (zp_found n q lab sz pr code nest S o c) x := by
    rw [eS]
    unfold zp_val
    by_cases z : code o = 501
    · rw [if_pos z, if_pos z]
    · rw [if_neg z, if_neg z, b_and, zb_not _ (by omega), zb_lob (by omega), decide_eq_true hx, Bool.true_and, Bool.not_not]
  -- collecting
  have k129 : ∀ (lc : Int32) (A Cu Nx : Nat → Int32), (∀ y, y < n → Cu y = zp_b (bt R y)) → ∃ f, wY_run_129 post J43 J49 x1 (nI o) (nI x) yL yD yI yB (nI n) yfc yfo (nI q) yrc ybc lc f 0 yord ypar ylab ycell yit yres ybn ybcell A Cu Nx (upd yholds (32 * o + x) 0) := by
    intro lc A Cu Nx hCu
    have key : ∀ d k (Ho : Nat → Int32), k + d = n → (∀ j, j ≠ 32 * o + x → Ho j = yholds j) → (Ho (32 * o + x) = 0 ∧ (∀ y, y < k → bt R y = false) ∨ Ho (32 * o + x) = 1 ∧ ∃ y, y < n ∧ bt R y = true) → wY_run_129 post J43 J49 x1 (nI o) (nI x) yL yD yI yB (nI n) yfc yfo (nI q) yrc ybc lc (d + 1) (nI k) yord ypar ylab ycell yit yres ybn ybcell A Cu Nx Ho := by
      intro d
      induction d with
      | zero =>
        intro k Ho hk g1 g2
        have e : k = n := by omega
        subst e
        refine br_t (nI_le (Nat.le_refl _) (by omega)) (nm_r (nI_1 x) (h lc A Cu Nx Ho g1 ?_))
        rw [val]
        rcases g2 with ⟨a1, a2⟩ | ⟨a1, a2⟩
        · have : bt (zp_found k q lab sz pr code nest S o c) x = false := by
            cases e : bt (zp_found k q lab sz pr code nest S o c) x
            · rfl
            · obtain ⟨y, y1, y2⟩ := found.mp e
              rw [a2 y y1] at y2; exact absurd y2 (by decide)
          rw [a1, this]; rfl
        · rw [a1, found.mpr a2]; rfl
      | succ d ih =>
        intro k Ho hk g1 g2
        have ck : (nI k).toNatClampNeg = k := nI_clamp (by omega)
        refine br_f (nI_ge (by omega) (by omega)) ⟨vp_in_nI (by omega) (by omega), ?_⟩
        rw [ck, hCu k (by omega)]
        cases e : bt R k
        · refine br_t rfl (nm_r (nI_1 k) (ih (k + 1) Ho (by omega) g1 ?_))
          rcases g2 with ⟨a1, a2⟩ | a
          · exact Or.inl ⟨a1, lt_s a2 e⟩
          · exact Or.inr a
        · refine br_f (by decide) ?_
          rw [idx, cidx]
          refine ⟨vidx, nm_e (nm_r (nI_1 k) (ih (k + 1) _ (by omega) ?_ ?_))⟩
          · intro j hj; rw [pk_un hj]; exact g1 j hj
          · refine Or.inr ⟨?_, k, by omega, e⟩
            rw [pk_us]; rfl
    exact ⟨n + 1, key n 0 _ (by omega) (fun j hj => pk_un hj) (Or.inl ⟨pk_us, fun y hy => absurd hy (Nat.not_lt_zero y)⟩)⟩
  have key : ∀ d k (Cu : Nat → Int32), k + d = n → (∀ y, y < k → Cu y = zp_b (bt (zb_1 x) y)) → wY_run_74 post J43 J49 x1 (nI o) (nI x) yL yD yI yB (nI n) yfc yfo (nI q) yrc ybc ylc (d + 1) (nI k) yord ypar ylab ycell yit yres ybn ybcell ylist Cu ynext yholds := by
    intro d
    induction d with
    | zero =>
      intro k Cu hk g
      have e : k = n := by omega
      subst e
      refine br_t (nI_le (Nat.le_refl _) (by omega)) ?_
      rw [nI_1]
      refine zy_walk T Y hq hP I (fun k k1 k2 => Hh k (by omega) k2) (show o + 1 ≤ c by omega) (by omega) (show nd (o + 1) = nest c + 1 by omega) (fun k k1 k2 => ?_) (Or.inr ⟨hcq, hc6, by omega⟩) g fun lc A Cu' Nx g' => ?_
      · rcases Nat.eq_or_lt_of_le k2 with w | w
        · rw [w]; omega
        · have := m4 k (by omega) w
          have := (hP.2.2.1 k (by omega)).1
          omega
      · rw [idx, cidx]
        refine ⟨vidx, nm_r (e' := upd yholds (32 * o + x) 0) rfl (k129 lc A Cu' Nx ?_)⟩
        rw [hRd]; exact g'
    | succ d ih =>
      intro k Cu hk g
      have ck : (nI k).toNatClampNeg = k := nI_clamp (by omega)
      refine br_f (nI_ge (by omega) (by omega)) (pk_eq k x (fun z => ⟨vp_in_nI (by omega) (by omega), nm_e (nm_r (nI_1 k) (ih (k + 1) _ (by omega) ?_))⟩) (fun z => ⟨vp_in_nI (by omega) (by omega), nm_e (nm_r (nI_1 k) (ih (k + 1) _ (by omega) ?_))⟩))
      · rw [ck]
        refine lt_s (fun y hy => ?_) ?_
        · rw [pk_un (by omega)]; exact g y hy
        · rw [pk_us, zb_1b (by omega) (by omega), decide_eq_true z]; rfl
      · rw [ck]
        refine lt_s (fun y hy => ?_) ?_
        · rw [pk_un (by omega)]; exact g y hy
        · rw [pk_us, zb_1b (by omega) (by omega), decide_eq_false z]; rfl
  exact ⟨n + 1, key n 0 _ (by omega) lt_0⟩
end
end
section
/-! ===== Y: run, the outer loops ===== -/
def zr_R (ord : Nat → Nat) (M : Int32) (A : Nat → Int32) : Prop := ∀ k, (h : k < (zb_ls M).length) → A k = nI (ord (zb_ls M)[k])
theorem zb_mkR {R : Int32} {n : Nat} (hn : n ≤ 32) (h : ∀ y, bt R y = true → y < n) : zb_mk (fun y => bt R y) n = R := by
  apply zb_eq
  intro i hi
  rw [zb_mkb _ hn hi]
  exact ⟨fun z => z.2, fun z => ⟨h i z, z⟩⟩
section
variable {yL yD yI yB yn yfc yfo ypc yrc ybc ylc : Int32} {yord ypar ylab ycell yit yres ybn ybcell ylist ycur ynext yholds : Nat → Int32}
variable {L D B n q : Nat} {ord lev lab sz pr code nest mate nd : Nat → Nat} {S : Nat → Int32}
theorem zy_r286 {post : Int32 → SY → Prop} {R : Int32} (T : zr_T L D B n ord lev lab sz pr) (O : ∀ i, i < n → yord i = nI (ord i)) (hR : ∀ y, bt R y = true → y < n) (hC : ∀ y, y < n → ycur y = zp_b (bt R y))
    (h : ∀ Rs, zr_R ord R Rs → post (nI (zb_ls R).length) (yL, yD, yI, yB, nI n, yfc, yfo, ypc, nI (zb_ls R).length, ybc, ylc, yord, ypar, ylab, ycell, yit, Rs, ybn, ybcell, ylist, ycur, ynext, yholds)) : ∃ f, wY_run_286 post yL yD yI yB (nI n) yfc yfo ypc ybc ylc f 0 0 yord ypar ylab ycell yit yres ybn ybcell ylist ycur ynext yholds := by
  have hb := T.2.1
  have fin : zp_kp (fun k => bt R k) (fun k => k) n = zb_ls R := by
    have := zp_kpm (fun y => bt R y) false (n := n) (by omega)
    rw [zb_mkR (by omega) hR] at this
    exact this
  have key : ∀ d k (Rs : Nat → Int32), k + d = n → (∀ j, (hj : j < (zp_kp (fun k => bt R k) (fun k => k) k).length) → Rs j = nI (ord (zp_kp (fun k => bt R k) (fun k => k) k)[j])) → wY_run_286 post yL yD yI yB (nI n) yfc yfo ypc ybc ylc (d + 1) (nI k) (nI (zp_kp (fun k => bt R k) (fun k => k) k).length) yord ypar ylab ycell yit Rs ybn ybcell ylist ycur ynext yholds := by
    intro d
    induction d with
    | zero =>
      intro k Rs hk g
      have e : k = n := by omega
      subst e
      refine br_t (nI_le (Nat.le_refl _) (by omega)) ?_
      rw [fin] at g ⊢
      exact h Rs g
    | succ d ih =>
      intro k Rs hk g
      have ck : (nI k).toNatClampNeg = k := nI_clamp (by omega)
      have kl := zp_kpl (fun k => bt R k) (fun k => k) k
      have ihk := fun Rs => ih (k + 1) Rs (by omega)
      rw [show zp_kp (fun k => bt R k) (fun k => k) (k + 1) = if bt R k = true then zp_kp (fun k => bt R k) (fun k => k) k ++ [k] else zp_kp (fun k => bt R k) (fun k => k) k from rfl] at ihk
      generalize zp_kp (fun k => bt R k) (fun k => k) k = l at *
      have cl : (nI l.length).toNatClampNeg = l.length := nI_clamp (by omega)
      refine br_f (nI_ge (by omega) (by omega)) ⟨vp_in_nI (by omega) (by omega), ?_⟩
      rw [ck, hC k (by omega)]
      cases e : bt R k
      · rw [e] at ihk
        exact br_t rfl (nm_r (nI_1 k) (ihk Rs g))
      · rw [e, if_pos rfl] at ihk
        refine br_f (by decide) (nm_r (nI_1 l.length) ⟨vp_in_nI (by omega) (by omega), vp_in_nI (by omega) (by omega), nm_r (e' := upd Rs l.length (nI (ord k))) (by rw [cl, O k (by omega)]) (nm_r (nI_1 k) ?_)⟩)
        have := ihk (upd Rs l.length (nI (ord k))) (fun j hj => by
          rw [List.length_append] at hj
          have hj : j < l.length + 1 := hj
          by_cases c : j = l.length
          · subst c; rw [pk_us, List.getElem_append_right (Nat.le_refl _)]; simp
          · rw [pk_un c, List.getElem_append_left (by omega)]; exact g j (by omega))
        rw [List.length_append] at this
        exact this
  exact ⟨n + 1, key n 0 _ (by omega) (fun j hj => absurd hj (Nat.not_lt_zero j))⟩
theorem zy_r217 {post : Int32 → SY → Prop} {x1 rm C1 C0 : Int32} (T : zr_T L D B n ord lev lab sz pr) (Y : zr_Y n ord lab pr yord ypar ylab) (hq : q ≤ 20) (hP : zp_path B q code nest mate nd) (I : ∀ j, j < q → yit j = nI (code j)) (Hh : ∀ k, k < q → zr_H n code S yholds k)
    (hrm : ∀ y, bt rm y = true → y < n) (hR : zr_R ord rm yres) (hC0 : ∀ y, bt C0 y = true → y < n) (hs : (x1 = -1 ∧ C0 = rm ∧ C1 = 0) ∨ (¬ x1 = -1 ∧ C1 = C0)) (hC : ∀ y, y < n → ycur y = zp_b (bt C1 y))
    (h : ∀ lc A Cu Nx Rs, zr_R ord (zp_fw (zp_F n q lab sz pr code nest S 0) 0 q C0) Rs → post (nI (zb_ls (zp_fw (zp_F n q lab sz pr code nest S 0) 0 q C0)).length) (yL, yD, yI, yB, nI n, yfc, yfo, nI q, nI (zb_ls (zp_fw (zp_F n q lab sz pr code nest S 0) 0 q C0)).length, ybc, lc, yord, ypar, ylab, ycell, yit, Rs, ybn, ybcell, A, Cu, Nx, yholds)) :
    ∃ f, wY_run_217 post x1 yL yD yI yB (nI n) yfc yfo (nI q) (nI (zb_ls rm).length) ybc ylc f 0 yord ypar ylab ycell yit yres ybn ybcell ylist ycur ynext yholds := by
  have hb := T.2.1
  have l32 := zb_len rm
  have inner : ∀ (J : Int32 → (Nat → Int32) → (Nat → Int32) → (Nat → Int32) → (Nat → Int32) → (Nat → Int32) → (Nat → Int32) → (Nat → Int32) → (Nat → Int32) → (Nat → Int32) → (Nat → Int32) → (Nat → Int32) → (Nat → Int32) → Prop) (y : Nat) (Cu : Nat → Int32), y < n → Cu y = zp_b (bt C1 y) →
      (∀ Cu', (∀ z, z ≠ y → Cu' z = Cu z) → Cu' y = zp_b (bt C0 y) → J (nI (y + 1)) yord ypar ylab ycell yit yres ybn ybcell ylist Cu' ynext yholds) →
      ∃ f, wY_run_227 post J x1 (nI y) yL yD yI yB (nI n) yfc yfo (nI q) (nI (zb_ls rm).length) ybc ylc f 0 yord ypar ylab ycell yit yres ybn ybcell ylist Cu ynext yholds := by
    intro J y Cu hy hCu hJ
    have cy : (nI y).toNatClampNeg = y := nI_clamp (by omega)
    have vy : vp_in (nI y) 32 := vp_in_nI (by omega) (by omega)
    rcases hs with ⟨s1, s2, s3⟩ | ⟨s1, s2⟩
    · subst s2 s3
      have key : ∀ d k (Cu' : Nat → Int32), k + d = (zb_ls C0).length → (∀ z, z ≠ y → Cu' z = Cu z) → ((Cu' y = 0 ∧ ∀ j, (hj : j < (zb_ls C0).length) → j < k → (zb_ls C0)[j] ≠ y) ∨ (Cu' y = 1 ∧ bt C0 y = true)) → wY_run_227 post J x1 (nI y) yL yD yI yB (nI n) yfc yfo (nI q) (nI (zb_ls C0).length) ybc ylc (d + 1) (nI k) yord ypar ylab ycell yit yres ybn ybcell ylist Cu' ynext yholds := by
        intro d
        induction d with
        | zero =>
          intro k Cu' hk g1 g2
          have e : k = (zb_ls C0).length := by omega
          subst e
          refine br_t (nI_le (Nat.le_refl _) (by omega)) (nm_r (nI_1 y) (hJ Cu' g1 ?_))
          rcases g2 with ⟨a1, a2⟩ | ⟨a1, a2⟩
          · have : bt C0 y = false := by
              cases e : bt C0 y
              · rfl
              · obtain ⟨j, hj, ej⟩ := List.getElem_of_mem (zb_mem'.mpr e)
                exact absurd ej (a2 j hj hj)
            rw [a1, this]; rfl
          · rw [a1, a2]; rfl
        | succ d ih =>
          intro k Cu' hk g1 g2
          have hkl : k < (zb_ls C0).length := by omega
          have ck : (nI k).toNatClampNeg = k := nI_clamp (by omega)
          refine br_f (nI_ge (by omega) (by omega)) (br_t s1 ⟨vp_in_nI (by omega) (by omega), vy, ?_⟩)
          have lk := hrm _ (zb_get hkl).2
          rw [ck, cy, hR k hkl, Y.1 y hy]
          refine ek_if (zr_nIj T lk hy) (fun z => ⟨vy, nm_e (nm_r (nI_1 k) (ih (k + 1) _ (by omega) ?_ ?_))⟩) (fun z => nm_r (nI_1 k) (ih (k + 1) _ (by omega) g1 ?_))
          · intro w hw; rw [pk_un hw]; exact g1 w hw
          · refine Or.inr ⟨?_, ?_⟩
            · rw [pk_us]; rfl
            · rw [← z]; exact (zb_get hkl).2
          · rcases g2 with ⟨a1, a2⟩ | a
            · refine Or.inl ⟨a1, fun j hj hjk => ?_⟩
              by_cases w : j = k
              · subst w; exact z
              · exact a2 j hj (by omega)
            · exact Or.inr a
      rw [b_0] at hCu
      exact ⟨_, key (zb_ls C0).length 0 Cu (by omega) (fun _ _ => rfl) (Or.inl ⟨hCu, fun j _ hj => absurd hj (Nat.not_lt_zero j)⟩)⟩
    · subst s2
      have key : ∀ d k, k + d = (zb_ls rm).length → wY_run_227 post J x1 (nI y) yL yD yI yB (nI n) yfc yfo (nI q) (nI (zb_ls rm).length) ybc ylc (d + 1) (nI k) yord ypar ylab ycell yit yres ybn ybcell ylist Cu ynext yholds := by
        intro d
        induction d with
        | zero =>
          intro k hk
          have e : k = (zb_ls rm).length := by omega
          subst e
          exact br_t (nI_le (Nat.le_refl _) (by omega)) (nm_r (nI_1 y) (hJ Cu (fun _ _ => rfl) hCu))
        | succ d ih =>
          intro k hk
          exact br_f (nI_ge (by omega) (by omega)) (br_f s1 (nm_r (nI_1 k) (ih (k + 1) (by omega))))
      exact ⟨_, key (zb_ls rm).length 0 (by omega)⟩
  have key : ∀ d y (Cu : Nat → Int32), y + d = n → (∀ z, z < y → Cu z = zp_b (bt C0 z)) → (∀ z, y ≤ z → z < n → Cu z = zp_b (bt C1 z)) → wY_run_217 post x1 yL yD yI yB (nI n) yfc yfo (nI q) (nI (zb_ls rm).length) ybc ylc (d + 1) (nI y) yord ypar ylab ycell yit yres ybn ybcell ylist Cu ynext yholds := by
    intro d
    induction d with
    | zero =>
      intro y Cu hy g1 g2
      have e : y = n := by omega
      subst e
      refine br_t (nI_le (Nat.le_refl _) (by omega)) (zy_walk (S := S) T Y hq hP I (fun k _ k2 => Hh k k2) (Nat.zero_le q) (Nat.le_refl _) hP.2.1 (fun k _ _ => Nat.zero_le _) (Or.inl rfl) g1 fun lc A Cu' Nx g' => ?_)
      exact zy_r286 T Y.1 (zp_fwn (by omega) hC0 q) g' (fun Rs hRs => h lc A Cu' Nx Rs hRs)
    | succ d ih =>
      intro y Cu hy g1 g2
      refine br_f (nI_ge (by omega) (by omega)) (inner _ y Cu (by omega) (g2 y (Nat.le_refl _) (by omega)) fun Cu' a1 a2 => ih (y + 1) Cu' (by omega) ?_ ?_)
      · refine lt_s (fun z hz => ?_) a2
        rw [a1 z (by omega)]; exact g1 z hz
      · intro z hz1 hz2; rw [a1 z (by omega)]; exact g2 z (by omega) hz2
  exact ⟨n + 1, key n 0 _ (by omega) lt_0 (fun z _ hz => hC z hz)⟩
theorem zy_run43 {post : Int32 → SY → Prop} {x1 rm C0 : Int32} (T : zr_T L D B n ord lev lab sz pr) (Y : zr_Y n ord lab pr yord ypar ylab) (hq : q ≤ 20) (hP : zp_path B q code nest mate nd) (I : ∀ j, j < q → yit j = nI (code j)) (hE : zp_E n q lab sz pr code nest mate S q)
    (hcl : ∀ o, o < q → (code o = 500 ∨ code o = 501) → ∃ c, c < q ∧ code c = 600 ∧ mate c = o)
    (hrm : ∀ y, bt rm y = true → y < n) (hR : zr_R ord rm yres) (hs : (x1 = -1 ∧ C0 = rm) ∨ ∃ s, s < n ∧ x1 = nI (ord s) ∧ C0 = zb_1 s)
    (h : ∀ lc A Cu Nx Ho Rs, zr_R ord (zp_fw (zp_F n q lab sz pr code nest S 0) 0 q C0) Rs → post (nI (zb_ls (zp_fw (zp_F n q lab sz pr code nest S 0) 0 q C0)).length) (yL, yD, yI, yB, nI n, yfc, yfo, nI q, nI (zb_ls (zp_fw (zp_F n q lab sz pr code nest S 0) 0 q C0)).length, ybc, lc, yord, ypar, ylab, ycell, yit, Rs, ybn, ybcell, A, Cu, Nx, Ho)) :
    ∃ f, wY_run_43 post x1 f (nI q + (-1)) yL yD yI yB (nI n) yfc yfo (nI q) (nI (zb_ls rm).length) ybc ylc yord ypar ylab ycell yit yres ybn ybcell ylist ycur ynext yholds := by
  have hb := T.2.1
  have n0 := T.1.1
  have k180 : ∀ (lc : Int32) (A Cu Nx Ho : Nat → Int32), (∀ k, k < q → zr_H n code S Ho k) → ∃ f, wY_run_180 post x1 yL yD yI yB (nI n) yfc yfo (nI q) (nI (zb_ls rm).length) ybc lc f 0 yord ypar ylab ycell yit yres ybn ybcell A Cu Nx Ho := by
    intro lc A Cu Nx Ho hHo
    obtain ⟨C1, q1, q2, q3⟩ : ∃ C1, ((x1 = -1 ∧ C0 = rm ∧ C1 = 0) ∨ (¬ x1 = -1 ∧ C1 = C0)) ∧ (∀ y, y < n → (nI (ord y) = x1 ↔ bt C1 y = true)) ∧ (∀ y, bt C0 y = true → y < n) := by
      rcases hs with ⟨s1, s2⟩ | ⟨s, s1, s2, s3⟩
      · refine ⟨0, Or.inl ⟨s1, s2, rfl⟩, fun y hy => ?_, by rw [s2]; exact hrm⟩
        have := T.2.2.2.1 y hy
        rw [s1, b_0]
        constructor
        · intro e
          have : nI (ord y) < 0 := by rw [e]; decide
          exact absurd this (nI_pos (by omega))
        · intro e; exact absurd e (by decide)
      · have := T.2.2.2.1 s s1
        refine ⟨C0, Or.inr ⟨fun e => ?_, rfl⟩, fun y hy => ?_, fun y hy => ?_⟩
        · rw [s2] at e
          have : nI (ord s) < 0 := by rw [e]; decide
          exact absurd this (nI_pos (by omega))
        · rw [s2, s3, zr_nIj T hy s1, zb_1b (by omega) (by omega), decide_eq_true_eq]
        · rw [s3] at hy
          have h32 : y < 32 := (zb_mem.mp (zb_mem'.mpr hy)).1
          rw [zb_1b (by omega) h32] at hy
          rw [of_decide_eq_true hy]; exact s1
    have key : ∀ d k (Cu : Nat → Int32), k + d = n → (∀ y, y < k → Cu y = zp_b (bt C1 y)) → wY_run_180 post x1 yL yD yI yB (nI n) yfc yfo (nI q) (nI (zb_ls rm).length) ybc lc (d + 1) (nI k) yord ypar ylab ycell yit yres ybn ybcell A Cu Nx Ho := by
      intro d
      induction d with
      | zero =>
        intro k Cu hk g
        have e : k = n := by omega
        subst e
        exact br_t (nI_le (Nat.le_refl _) (by omega)) (zy_r217 (S := S) T Y hq hP I hHo hrm hR q3 q1 g fun lc A Cu Nx Rs hRs => h lc A Cu Nx Ho Rs hRs)
      | succ d ih =>
        intro k Cu hk g
        have ck : (nI k).toNatClampNeg = k := nI_clamp (by omega)
        refine br_f (nI_ge (by omega) (by omega)) ⟨vp_in_nI (by omega) (by omega), ?_⟩
        rw [ck, Y.1 k (by omega)]
        refine ek_if (q2 k (by omega)) (fun z => ⟨vp_in_nI (by omega) (by omega), nm_e (nm_r (nI_1 k) (ih (k + 1) _ (by omega) ?_))⟩) (fun z => ⟨vp_in_nI (by omega) (by omega), nm_e (nm_r (nI_1 k) (ih (k + 1) _ (by omega) ?_))⟩)
        · refine lt_s (fun y hy => ?_) ?_
          · rw [pk_un (by omega)]; exact g y hy
          · rw [pk_us, z]; rfl
        · refine lt_s (fun y hy => ?_) ?_
          · rw [pk_un (by omega)]; exact g y hy
          · rw [pk_us, zb_nt z]; rfl
    exact ⟨n + 1, key n 0 Cu (by omega) lt_0⟩
  have key : ∀ d (lc : Int32) (A Cu Nx Ho : Nat → Int32), d ≤ q → (∀ k, d ≤ k → k < q → zr_H n code S Ho k) → wY_run_43 post x1 (d + 1) (nI d + (-1)) yL yD yI yB (nI n) yfc yfo (nI q) (nI (zb_ls rm).length) ybc lc yord ypar ylab ycell yit yres ybn ybcell A Cu Nx Ho := by
    intro d
    induction d with
    | zero =>
      intro lc A Cu Nx Ho hd hH
      exact br_t (show nI 0 + (-1) < 0 by decide) (k180 lc A Cu Nx Ho (fun k hk => hH k (Nat.zero_le _) hk))
    | succ d ih =>
      intro lc A Cu Nx Ho hd hH
      have hdq : d < q := by omega
      obtain ⟨ck, nk⟩ := hP.1 d hdq
      have c1000 := zp_c1000 ck
      have cd : (nI d).toNatClampNeg = d := nI_clamp (by omega)
      have vd : vp_in (nI d) 20 := vp_in_nI (by omega) (by omega)
      rw [pk_m1 d]
      refine br_f (nI_pos (by omega)) ?_
      by_cases op : code d = 500 ∨ code d = 501
      · obtain ⟨c, c1, c2, c3⟩ := hcl d hdq op
        have inner : ∀ e x (lc : Int32) (A Cu Nx Ho : Nat → Int32), x + e = n → (∀ k, d < k → k < q → zr_H n code S Ho k) → (∀ y, y < x → Ho (32 * d + y) = zp_b (if code d = 501 then bt (S d) y else !(bt (S d) y))) → wY_run_49 post (wY_run_43 post x1 (d + 1)) x1 (nI d) (e + 1) (nI x) yL yD yI yB (nI n) yfc yfo (nI q) (nI (zb_ls rm).length) ybc lc yord ypar ylab ycell yit yres ybn ybcell A Cu Nx Ho := by
          intro e
          induction e with
          | zero =>
            intro x lc A Cu Nx Ho hx g1 g2
            have ex : x = n := by omega
            subst ex
            refine br_t (nI_le (Nat.le_refl _) (by omega)) (nm_e (ih lc A Cu Nx Ho (by omega) fun k k1 k2 => ?_))
            rcases Nat.eq_or_lt_of_le k1 with w | w
            · subst w; exact fun _ => g2
            · exact g1 k w k2
          | succ e ihe =>
            intro x lc A Cu Nx Ho hx g1 g2
            refine br_f (nI_ge (by omega) (by omega)) ⟨vd, ?_⟩
            rw [cd, I d hdq]
            refine zy_nest ck (fun z => by omega) (fun _ => br_t rfl ?_) (fun z => by omega)
            refine zy_r74 T Y hq hP I g1 hE c1 c2 c3 (show x < n by omega) fun lc' A' Cu' Nx' Ho' a1 a2 => ihe (x + 1) lc' A' Cu' Nx' Ho' (by omega) (fun k k1 k2 => ?_) ?_
            · intro hk y hy
              rw [a1 _ (by omega)]
              exact g1 k k1 k2 hk y hy
            · refine lt_s (fun y hy => ?_) a2
              rw [a1 _ (by omega)]; exact g2 y hy
        exact ⟨n + 1, inner n 0 lc A Cu Nx Ho (by omega) (fun k k1 k2 => hH k (by omega) k2) lt_0⟩
      · refine ⟨1, br_f (nI_ge (a := 0) (by omega) (by omega)) ⟨vd, ?_⟩⟩
        rw [cd, I d hdq]
        have nx := ih lc A Cu Nx Ho (by omega) (fun k k1 k2 => by
          rcases Nat.eq_or_lt_of_le k1 with w | w
          · subst w; exact fun z => absurd z op
          · exact hH k w k2)
        exact zy_nest ck (fun z => br_f (by decide) (nm_e nx)) (fun z => absurd z op) (fun z => br_f (by decide) (nm_e nx))
  exact ⟨q + 1, key q ylc ylist ycur ynext yholds (Nat.le_refl _) (fun k k1 k2 => by omega)⟩
end
end
section
/-! ===== the relation ===== -/
def zt_up (f : Nat → Nat) (k v : Nat) : Nat → Nat := fun i => if i = k then v else f i
theorem zt_us {f : Nat → Nat} {k v : Nat} : zt_up f k v k = v := if_pos rfl
theorem zt_un {f : Nat → Nat} {k v i : Nat} (h : i ≠ k) : zt_up f k v i = f i := if_neg h
def zr_bd (L D IL B : Nat) : Prop := (4 ≤ L ∧ L ≤ 32) ∧ (2 ≤ D ∧ D ≤ 8) ∧ (4 ≤ IL ∧ IL ≤ 20) ∧ (1 ≤ B ∧ B ≤ 6)
def zr_tree (L D B n : Nat) (xu xrm : Int32) (xord xrk xpar xlab xlev xsz xlm xvm yord ypar ylab yres : Nat → Int32) : Prop :=
  ∃ ord lev lab sz pr : Nat → Nat, zr_T L D B n ord lev lab sz pr ∧ zr_U n ord xu ∧ zr_X n ord lev lab sz pr xord xrk xpar xlab xlev xsz xlm xvm ∧ zr_Y n ord lab pr yord ypar ylab ∧ (∀ y, bt xrm y = true → y < n) ∧ zr_R ord xrm yres
def zr_frag (L D B m o hh : Nat) (xgl xgv xgs xgst ycell : Nat → Int32) : Prop :=
  ∃ fl fv fs st fp : Nat → Nat, (m ≤ L ∧ o ≤ D ∧ hh < D) ∧ (∀ i, i < m → xgl i = nI (fl i) ∧ xgv i = nI (fv i) ∧ xgs i = nI (fs i) ∧ ycell i = nI (8 * fv i + fl i) ∧ fl i < B ∧ fv i ≤ hh) ∧ (hh = 0 ∨ ∃ i, i < m ∧ fv i = hh) ∧
    (∀ d, d < o → xgst d = nI (st d) ∧ st d < m ∧ fv (st d) = d ∧ ∀ k, st d < k → k < m → d < fv k) ∧ (∀ i, i < m → fv i = 0 ∨ zt_P fv (fp i) i) ∧
    (∀ i, i < m → (fv i < o ∧ st (fv i) = i) ∨ (zt_S m fv i (fs i) ∧ (i + fs i + 1 = m → o ≤ fv i)))
def zr_pth (IL B q po : Nat) (xpc xpn xpm xoa yit : Nat → Int32) : Prop :=
  ∃ code nest mate nd oa : Nat → Nat, zp_path B q code nest mate nd ∧ zr_Q q code nest mate xpc xpn xpm ∧ (∀ j, j < q → yit j = nI (code j)) ∧ (q ≤ IL ∧ po = nd q ∧ po ≤ 3) ∧
    (∀ d, d < po → xoa d = nI (oa d) ∧ oa d < q ∧ (code (oa d) = 500 ∨ code (oa d) = 501) ∧ nest (oa d) = d ∧ ∀ k, oa d < k → k < q → d < nest k) ∧
    (∀ i, i < q → (code i = 500 ∨ code i = 501) → (∃ d, d < po ∧ oa d = i) ∨ ∃ c, c < q ∧ code c = 600 ∧ mate c = i)
def i_Rel (_ : Nat) (u : SX) (v : SY) : Prop := match u, v with
  | (xL, xD, xI, xB, xn, xu, xbl, xfl, xfo, xfh, xpl, xpo, xrm, xrc, xord, xrk, xpar, xlab, xlev, xsz, xlm, xvm, xbn, xbb, xbv, xbs, xlin, xgl, xgv, xgs, xgst, xpc, xpn, xpm, xoa, xsat), (yL, yD, yI, yB, yn, yfc, yfo, ypc, yrc, ybc, ylc, yord, ypar, ylab, ycell, yit, yres, ybn, ybcell, ylist, ycur, ynext, yholds) => ∃ L D IL B n m o hh q po : Nat, (xL = nI L ∧ xD = nI D ∧ xI = nI IL ∧ xB = nI B ∧ xn = nI n ∧ xfl = nI m ∧ xfo = nI o ∧ xfh = nI hh ∧ xpl = nI q ∧ xpo = nI po ∧ xrc = nI (zb_ls xrm).length ∧
      yL = nI L ∧ yD = nI D ∧ yI = nI IL ∧ yB = nI B ∧ yn = nI n ∧ yfc = nI m ∧ yfo = nI o ∧ ypc = nI q ∧ yrc = nI (zb_ls xrm).length) ∧
      zr_bd L D IL B ∧ zr_tree L D B n xu xrm xord xrk xpar xlab xlev xsz xlm xvm yord ypar ylab yres ∧ zr_frag L D B m o hh xgl xgv xgs xgst ycell ∧ zr_pth IL B q po xpc xpn xpm xoa yit
section
variable {xL xD xI xB xn xu xbl xfl xfo xfh xpl xpo xrm xrc : Int32} {xord xrk xpar xlab xlev xsz xlm xvm xbn xbb xbv xbs xlin xgl xgv xgs xgst xpc xpn xpm xoa xsat : Nat → Int32}
variable {yL yD yI yB yn yfc yfo ypc yrc ybc ylc : Int32} {yord ypar ylab ycell yit yres ybn ybcell ylist ycur ynext yholds : Nat → Int32}
variable {L D IL B n m o hh q po : Nat}
theorem zr_in {k : Nat} (h0 : zr_bd L D IL B) (h1 : zr_tree L D B n xu xrm xord xrk xpar xlab xlev xsz xlm xvm yord ypar ylab yres) (h2 : zr_frag L D B m o hh xgl xgv xgs xgst ycell) (h3 : zr_pth IL B q po xpc xpn xpm xoa yit) : i_Rel k (nI L, nI D, nI IL, nI B, nI n, xu, xbl, nI m, nI o, nI hh, nI q, nI po, xrm, nI (zb_ls xrm).length, xord, xrk, xpar, xlab, xlev, xsz, xlm, xvm, xbn, xbb, xbv, xbs, xlin, xgl, xgv, xgs, xgst, xpc, xpn, xpm, xoa, xsat) (nI L, nI D, nI IL, nI B, nI n, nI m, nI o, nI q, nI (zb_ls xrm).length, ybc, ylc, yord, ypar, ylab, ycell, yit, yres, ybn, ybcell, ylist, ycur, ynext, yholds) :=
  ⟨L, D, IL, B, n, m, o, hh, q, po, ⟨rfl, rfl, rfl, rfl, rfl, rfl, rfl, rfl, rfl, rfl, rfl, rfl, rfl, rfl, rfl, rfl, rfl, rfl, rfl, rfl⟩, h0, h1, h2, h3⟩
/-- the same behind an edit: the result is empty -/
theorem zr_in0 {k : Nat} (h0 : zr_bd L D IL B) (h1 : zr_tree L D B n xu 0 xord xrk xpar xlab xlev xsz xlm xvm yord ypar ylab yres) (h2 : zr_frag L D B m o hh xgl xgv xgs xgst ycell) (h3 : zr_pth IL B q po xpc xpn xpm xoa yit) : i_Rel k (nI L, nI D, nI IL, nI B, nI n, xu, xbl, nI m, nI o, nI hh, nI q, nI po, 0, 0, xord, xrk, xpar, xlab, xlev, xsz, xlm, xvm, xbn, xbb, xbv, xbs, xlin, xgl, xgv, xgs, xgst, xpc, xpn, xpm, xoa, xsat) (nI L, nI D, nI IL, nI B, nI n, nI m, nI o, nI q, 0, ybc, ylc, yord, ypar, ylab, ycell, yit, yres, ybn, ybcell, ylist, ycur, ynext, yholds) := by
  have e : (0 : Int32) = nI (zb_ls 0).length := by rw [zb_ls0]; rfl
  exact ⟨L, D, IL, B, n, m, o, hh, q, po, ⟨rfl, rfl, rfl, rfl, rfl, rfl, rfl, rfl, rfl, rfl, e, rfl, rfl, rfl, rfl, rfl, rfl, rfl, rfl, e⟩, h0, h1, h2, h3⟩
end
theorem zr_el {P : SX → SY → Prop} {k : Nat}
    (h : ∀ (L D IL B n m o hh q po : Nat) (xu xbl xrm : Int32) (xord xrk xpar xlab xlev xsz xlm xvm xbn xbb xbv xbs xlin xgl xgv xgs xgst xpc xpn xpm xoa xsat : Nat → Int32) (ybc ylc : Int32) (yord ypar ylab ycell yit yres ybn ybcell ylist ycur ynext yholds : Nat → Int32),
      zr_bd L D IL B → zr_tree L D B n xu xrm xord xrk xpar xlab xlev xsz xlm xvm yord ypar ylab yres → zr_frag L D B m o hh xgl xgv xgs xgst ycell → zr_pth IL B q po xpc xpn xpm xoa yit → P (nI L, nI D, nI IL, nI B, nI n, xu, xbl, nI m, nI o, nI hh, nI q, nI po, xrm, nI (zb_ls xrm).length, xord, xrk, xpar, xlab, xlev, xsz, xlm, xvm, xbn, xbb, xbv, xbs, xlin, xgl, xgv, xgs, xgst, xpc, xpn, xpm, xoa, xsat) (nI L, nI D, nI IL, nI B, nI n, nI m, nI o, nI q, nI (zb_ls xrm).length, ybc, ylc, yord, ypar, ylab, ycell, yit, yres, ybn, ybcell, ylist, ycur, ynext, yholds)) :
    ∀ {u : SX} {v : SY}, i_Rel k u v → P u v
  | (xL, xD, xI, xB, xn, xu, xbl, xfl, xfo, xfh, xpl, xpo, xrm, xrc, xord, xrk, xpar, xlab, xlev, xsz, xlm, xvm, xbn, xbb, xbv, xbs, xlin, xgl, xgv, xgs, xgst, xpc, xpn, xpm, xoa, xsat), (yL, yD, yI, yB, yn, yfc, yfo, ypc, yrc, ybc, ylc, yord, ypar, ylab, ycell, yit, yres, ybn, ybcell, ylist, ycur, ynext, yholds), I => by
    obtain ⟨L, D, IL, B, n, m, o, hh, q, po, ⟨rfl, rfl, rfl, rfl, rfl, rfl, rfl, rfl, rfl, rfl, rfl, rfl, rfl, rfl, rfl, rfl, rfl, rfl, rfl, rfl⟩, h0, h1, h2, h3⟩ := I
    exact h _ _ _ _ _ _ _ _ _ _ _ _ _ _ _ _ _ _ _ _ _ _ _ _ _ _ _ _ _ _ _ _ _ _ _ _ _ _ _ _ _ _ _ _ _ _ _ _ _ h0 h1 h2 h3
/-! ===== the constructors ===== -/
theorem zr_clamp (x : Int32) (lo hi : Nat) (h : lo ≤ hi) (hh : hi < 1000) : ∃ c, lo ≤ c ∧ c ≤ hi ∧ (∀ (post : Int32 → Prop) (u : SX), post (nI c) → wpX_clamp post u x (nI lo) (nI hi)) ∧ (∀ (post : Int32 → Prop) (u : SY), post (nI c) → wpY_clamp post u x (nI lo) (nI hi)) := by
  by_cases c1 : nI lo ≤ x
  · have c0 : ¬ x < 0 := fun z => by
      have := Int32.lt_of_le_of_lt c1 z
      exact nI_pos (by omega) this
    obtain ⟨j, hj, rfl⟩ := nI_of c0
    by_cases c2 : nI j ≤ nI hi
    · exact ⟨j, (nI_leI (by omega) hj).mp c1, (nI_leI hj (by omega)).mp c2, fun post (xL, xD, xI, xB, xn, xu, xbl, xfl, xfo, xfh, xpl, xpo, xrm, xrc, xord, xrk, xpar, xlab, xlev, xsz, xlm, xvm, xbn, xbb, xbv, xbs, xlin, xgl, xgv, xgs, xgst, xpc, xpn, xpm, xoa, xsat) hp => br_t c1 (br_t c2 hp), fun post (yL, yD, yI, yB, yn, yfc, yfo, ypc, yrc, ybc, ylc, yord, ypar, ylab, ycell, yit, yres, ybn, ybcell, ylist, ycur, ynext, yholds) hp => br_t c1 (br_t c2 hp)⟩
    · exact ⟨hi, h, Nat.le_refl _, fun post (xL, xD, xI, xB, xn, xu, xbl, xfl, xfo, xfh, xpl, xpo, xrm, xrc, xord, xrk, xpar, xlab, xlev, xsz, xlm, xvm, xbn, xbb, xbv, xbs, xlin, xgl, xgv, xgs, xgst, xpc, xpn, xpm, xoa, xsat) hp => br_t c1 (br_f c2 hp), fun post (yL, yD, yI, yB, yn, yfc, yfo, ypc, yrc, ybc, ylc, yord, ypar, ylab, ycell, yit, yres, ybn, ybcell, ylist, ycur, ynext, yholds) hp => br_t c1 (br_f c2 hp)⟩
  · exact ⟨lo, Nat.le_refl _, h, fun post (xL, xD, xI, xB, xn, xu, xbl, xfl, xfo, xfh, xpl, xpo, xrm, xrc, xord, xrk, xpar, xlab, xlev, xsz, xlm, xvm, xbn, xbb, xbv, xbs, xlin, xgl, xgv, xgs, xgst, xpc, xpn, xpm, xoa, xsat) hp => br_f c1 hp, fun post (yL, yD, yI, yB, yn, yfc, yfo, ypc, yrc, ybc, ylc, yord, ypar, ylab, ycell, yit, yres, ybn, ybcell, ylist, ycur, ynext, yholds) hp => br_f c1 hp⟩
theorem zr_b1 : ∀ b, b < 32 → (bt 1 b = true ↔ b = 0) := by decide +kernel
theorem zr_tree0 {L D B : Nat} (h1 : 4 ≤ L ∧ L ≤ 32) (h2 : 2 ≤ D ∧ D ≤ 8) (h3 : 1 ≤ B ∧ B ≤ 6) : zr_tree L D B 1 1 0 (fun _ => 0) (fun _ => 0) (upd (fun _ => 0) 0 (-1)) (fun _ => 0) (fun _ => 0) (fun _ => 0) (upd (fun _ => 0) 0 1) (upd (fun _ => 0) 0 1) (fun _ => 0) (upd (fun _ => 0) 0 (-1)) (fun _ => 0) (fun _ => 0) := by
  refine ⟨fun _ => 0, fun _ => 0, fun _ => 0, fun _ => 0, fun _ => 0, ⟨⟨by omega, rfl, fun i h h' => by omega, fun i hi => ⟨by show i + 0 < 1; omega, fun k k1 k2 => by have k2 : k ≤ i + 0 := k2; omega, fun _ => Nat.le_refl _⟩⟩, by omega, rfl, fun i hi => ⟨by show 0 < L; omega, Nat.zero_le _, by show 0 < B; omega⟩, fun i j hi hj _ => by omega⟩, ?_, ⟨?_, ?_, ?_, ?_, ?_, ?_, ?_⟩, ⟨?_, ?_, ?_⟩, ?_, ?_⟩
  · intro x hx
    rw [zr_b1 x hx]
    exact ⟨fun e => ⟨0, by omega, e.symm⟩, fun ⟨i, _, e⟩ => e.symm⟩
  · intro i hi
    have : i = 0 := by have hi : i < 1 := hi; omega
    subst this; exact ⟨rfl, rfl⟩
  · intro i hi
    have : i = 0 := by have hi : i < 1 := hi; omega
    subst this; rfl
  · intro i hi; rfl
  · intro i hi; rfl
  · intro i hi; rfl
  · intro l hl b hb
    by_cases z : l = 0
    · subst z
      show bt 1 b = true ↔ b < 1 ∧ 0 = 0
      rw [zr_b1 b hb]; omega
    · rw [pk_un z, b_0]
      exact ⟨fun q => absurd q (by decide), fun q => absurd q.2.symm z⟩
  · intro l hl b hb
    by_cases z : l = 0
    · subst z
      show bt 1 b = true ↔ b < 1 ∧ 0 = 0
      rw [zr_b1 b hb]; omega
    · rw [pk_un z, b_0]
      exact ⟨fun q => absurd q (by decide), fun q => absurd q.2.symm z⟩
  · intro i hi; rfl
  · intro i hi
    have : i = 0 := by have hi : i < 1 := hi; omega
    subst this; rfl
  · intro i hi; rfl
  · intro y hy; rw [b_0] at hy; exact absurd hy (by decide)
  · intro k hk; rw [zb_ls0] at hk; exact absurd hk (Nat.not_lt_zero _)
theorem zr_frag0 {L D B : Nat} (h2 : 2 ≤ D) (xgl xgv xgs xgst ycell : Nat → Int32) : zr_frag L D B 0 0 0 xgl xgv xgs xgst ycell :=
  ⟨fun _ => 0, fun _ => 0, fun _ => 0, fun _ => 0, fun _ => 0, by omega, fun i hi => absurd hi (Nat.not_lt_zero i), Or.inl rfl, fun i hi => absurd hi (Nat.not_lt_zero i), fun i hi => absurd hi (Nat.not_lt_zero i), fun i hi => absurd hi (Nat.not_lt_zero i)⟩
theorem zr_pth0 {IL B : Nat} (xpc xpn xpm xoa yit : Nat → Int32) : zr_pth IL B 0 0 xpc xpn xpm xoa yit :=
  ⟨fun _ => 0, fun _ => 0, fun _ => 0, fun _ => 0, fun _ => 0, ⟨fun i hi => absurd hi (Nat.not_lt_zero i), rfl, fun i hi => absurd hi (Nat.not_lt_zero i), fun i hi => absurd hi (Nat.not_lt_zero i)⟩, fun i hi => absurd hi (Nat.not_lt_zero i), fun i hi => absurd hi (Nat.not_lt_zero i), ⟨Nat.zero_le _, rfl, Nat.zero_le _⟩, fun i hi => absurd hi (Nat.not_lt_zero i), fun i hi => absurd hi (Nat.not_lt_zero i)⟩
theorem zv_init {k : Nat} (k0 : Int32) (k1 : Int32) (k2 : Int32) (k3 : Int32) : wpX_init (fun u => wpY_init (fun v => i_Rel k u v) k0 k1 k2 k3) k0 k1 k2 k3 := by
  obtain ⟨L, l1, l2, cx0, cy0⟩ := zr_clamp k0 4 32 (by omega) (by omega)
  obtain ⟨D, d1, d2, cx1, cy1⟩ := zr_clamp k1 2 8 (by omega) (by omega)
  obtain ⟨IL, i1, i2, cx2, cy2⟩ := zr_clamp k2 4 20 (by omega) (by omega)
  obtain ⟨B, b1, b2, cx3, cy3⟩ := zr_clamp k3 1 6 (by omega) (by omega)
  unfold wpX_init
  refine cx0 _ _ (cx1 _ _ (cx2 _ _ (cx3 _ _ ?_)))
  refine nm_e (nm_e (nm_e ?_))
  unfold wpY_init
  refine cy0 _ _ (cy1 _ _ (cy2 _ _ (cy3 _ _ ?_)))
  refine nm_e ?_
  exact zr_in0 (L := L) (D := D) (IL := IL) (B := B) (n := 1) (m := 0) (o := 0) (hh := 0) (q := 0) (po := 0) ⟨⟨l1, l2⟩, ⟨d1, d2⟩, ⟨i1, i2⟩, b1, b2⟩ (zr_tree0 ⟨l1, l2⟩ ⟨d1, d2⟩ ⟨b1, b2⟩) (zr_frag0 d1 _ _ _ _ _) (zr_pth0 _ _ _ _ _)
end
section
/-! ===== fragment and path: what the calls do to the groups ===== -/
theorem zr_fopen {L D B m o hh lb : Nat} {xgl xgv xgs xgst ycell : Nat → Int32} (h : zr_frag L D B m o hh xgl xgv xgs xgst ycell) (hm : m < L) (ho : o < D) (hl : lb < B) :
    zr_frag L D B (m + 1) (o + 1) (if o ≤ hh then hh else o) (upd xgl m (nI lb)) (upd xgv m (nI o)) (upd xgs m 0) (upd xgst o (nI m)) (upd ycell m (nI (8 * o + lb))) := by
  obtain ⟨fl, fv, fs, st, fp, h1, h2, h3, h4, h5, h6⟩ := h
  have hhe : hh ≤ (if o ≤ hh then hh else o) ∧ o ≤ (if o ≤ hh then hh else o) ∧ (if o ≤ hh then hh else o) < D ∧ ((if o ≤ hh then hh else o) = hh ∨ (if o ≤ hh then hh else o) = o) := by
    by_cases z : o ≤ hh
    · rw [if_pos z]; omega
    · rw [if_neg z]; omega
  generalize (if o ≤ hh then hh else o) = h' at *
  have e0 : ∀ i, i < m → zt_up fv m o i = fv i := fun i hi => zt_un (by omega)
  refine ⟨zt_up fl m lb, zt_up fv m o, zt_up fs m 0, zt_up st o m, zt_up fp m (st (o - 1)), by omega, ?_, ?_, ?_, ?_, ?_⟩
  · refine lt_s (fun i hi => ?_) ?_
    · have := h2 i hi
      rw [pk_un (by omega), pk_un (by omega), pk_un (by omega), pk_un (by omega), zt_un (by omega), zt_un (by omega), zt_un (by omega)]
      exact ⟨this.1, this.2.1, this.2.2.1, this.2.2.2.1, this.2.2.2.2.1, by omega⟩
    · rw [pk_us, pk_us, pk_us, pk_us, zt_us, zt_us, zt_us]
      exact ⟨rfl, rfl, rfl, rfl, hl, by omega⟩
  · rcases hhe.2.2.2 with e | e
    · rcases h3 with z | ⟨i, hi, z⟩
      · exact Or.inl (by omega)
      · exact Or.inr ⟨i, by omega, by rw [e0 i hi]; omega⟩
    · exact Or.inr ⟨m, by omega, by rw [zt_us, e]⟩
  · refine lt_s (fun d hd => ?_) ?_
    · obtain ⟨a1, a2, a3, a4⟩ := h4 d hd
      rw [pk_un (by omega), zt_un (by omega), e0 _ a2]
      refine ⟨a1, by omega, a3, fun k k1 k2 => ?_⟩
      by_cases z : k = m
      · rw [z, zt_us]; exact hd
      · rw [e0 k (by omega)]; exact a4 k k1 (by omega)
    · rw [pk_us, zt_us, zt_us]
      exact ⟨rfl, by omega, rfl, fun k k1 k2 => by omega⟩
  · refine lt_s (fun i hi => ?_) ?_
    · rw [e0 i hi, zt_un (show i ≠ m by omega)]
      rcases h5 i hi with z | z
      · exact Or.inl z
      · have z1 := z.1
        refine Or.inr ⟨z1, ?_, fun k k1 k2 => ?_⟩
        · rw [e0 i hi, e0 _ (by omega)]; exact z.2.1
        · rw [e0 i hi, e0 k (by omega)]; exact z.2.2 k k1 k2
    · rw [zt_us, zt_us]
      rcases Nat.eq_zero_or_pos o with z | z
      · exact Or.inl z
      · obtain ⟨a1, a2, a3, a4⟩ := h4 (o - 1) (by omega)
        refine Or.inr ⟨a2, ?_, fun k k1 k2 => ?_⟩
        · rw [zt_us, e0 _ a2, a3]; omega
        · rw [zt_us, e0 k k2]; have := a4 k k1 k2; omega
  · refine lt_s (fun i hi => ?_) ?_
    · rw [e0 i hi, zt_un (show i ≠ m by omega)]
      rcases h6 i hi with ⟨z1, z2⟩ | ⟨⟨z1, z2, z3⟩, z4⟩
      · exact Or.inl ⟨by omega, by rw [zt_un (by omega)]; exact z2⟩
      · refine Or.inr ⟨⟨by omega, fun k k1 k2 => ?_, fun k1 => ?_⟩, fun k1 => by omega⟩
        · rw [e0 i hi, e0 k (by omega)]; exact z2 k k1 k2
        · rw [e0 i hi]
          by_cases w : i + fs i + 1 = m
          · rw [w, zt_us]; exact z4 w
          · rw [e0 _ (by omega)]; exact z3 (by omega)
    · rw [zt_us]
      exact Or.inl ⟨by omega, zt_us⟩
theorem zr_fclose {L D B m o hh : Nat} {xgl xgv xgs xgst ycell : Nat → Int32} (h : zr_frag L D B m (o + 1) hh xgl xgv xgs xgst ycell) :
    ∃ p, p < m ∧ xgst o = nI p ∧ zr_frag L D B m o hh xgl xgv (upd xgs p (nI (m - 1 - p))) xgst ycell := by
  obtain ⟨fl, fv, fs, st, fp, h1, h2, h3, h4, h5, h6⟩ := h
  obtain ⟨a1, a2, a3, a4⟩ := h4 o (by omega)
  refine ⟨st o, a2, a1, fl, fv, zt_up fs (st o) (m - 1 - st o), st, fp, by omega, fun i hi => ?_, h3, fun d hd => h4 d (by omega), h5, fun i hi => ?_⟩
  · have := h2 i hi
    refine ⟨this.1, this.2.1, ?_, this.2.2.2⟩
    by_cases z : i = st o
    · subst z; rw [pk_us, zt_us]
    · rw [pk_un z, zt_un z]; exact this.2.2.1
  · by_cases z : i = st o
    · subst z
      rw [zt_us]
      refine Or.inr ⟨⟨by omega, fun k k1 k2 => ?_, fun k1 => by omega⟩, fun k1 => by omega⟩
      have := a4 k k1 (by omega); omega
    · rw [zt_un z]
      rcases h6 i hi with ⟨z1, z2⟩ | ⟨z1, z2⟩
      · refine Or.inl ⟨?_, z2⟩
        rcases Nat.lt_or_ge (fv i) o with w | w
        · exact w
        · have : fv i = o := by omega
          rw [this] at z2; exact absurd z2.symm z
      · exact Or.inr ⟨z1, fun w => by have := z2 w; omega⟩
/-- one more item -/
theorem zp_add {B q : Nat} {code nest mate nd : Nat → Nat} (h : zp_path B q code nest mate nd) {c v mt e : Nat} (hc : zp_cok B c) (hv : v ≤ 3) (e1 : nd q = v + (if c = 600 then 1 else 0)) (e2 : e = v + (if c = 500 ∨ c = 501 then 1 else 0))
    (hm : c = 600 → mt < q ∧ (code mt = 500 ∨ code mt = 501) ∧ nest mt = v ∧ ∀ k, mt < k → k < q → v < nest k) :
    zp_path B (q + 1) (zt_up code q c) (zt_up nest q v) (zt_up mate q mt) (zt_up nd (q + 1) e) := by
  obtain ⟨p1, p2, p3, p4⟩ := h
  refine ⟨?_, by rw [zt_un (by omega)]; exact p2, ?_, ?_⟩
  · refine lt_s (fun j hj => ?_) ?_
    · rw [zt_un (by omega), zt_un (by omega)]; exact p1 j hj
    · rw [zt_us, zt_us]; exact ⟨hc, hv⟩
  · refine lt_s (fun j hj => ?_) ?_
    · rw [zt_un (f := nd) (by omega), zt_un (f := nd) (by omega), zt_un (by omega), zt_un (by omega)]; exact p3 j hj
    · rw [zt_un (f := nd) (by omega), zt_us, zt_us, zt_us]; exact ⟨e1, e2⟩
  · refine lt_s (fun j hj => ?_) ?_
    · rw [zt_un (show j ≠ q by omega), zt_un (show j ≠ q by omega), zt_un (show j ≠ q by omega)]
      intro z
      obtain ⟨m1, m2, m3, m4⟩ := p4 j hj z
      rw [zt_un (by omega), zt_un (by omega)]
      refine ⟨m1, m2, m3, fun k k1 k2 => ?_⟩
      rw [zt_un (by omega)]; exact m4 k k1 k2
    · rw [zt_us, zt_us, zt_us]
      intro z
      obtain ⟨m1, m2, m3, m4⟩ := hm z
      rw [zt_un (by omega), zt_un (by omega)]
      refine ⟨m1, m2, m3, fun k k1 k2 => ?_⟩
      rw [zt_un (by omega)]; exact m4 k k1 k2
theorem zr_Qadd {q : Nat} {code nest mate : Nat → Nat} {xpc xpn xpm : Nat → Int32} (h : zr_Q q code nest mate xpc xpn xpm) (c v mt : Nat) {xpm' : Nat → Int32} (h1 : ∀ j, j < q → xpm' j = xpm j) (h2 : c = 600 → xpm' q = nI mt) :
    zr_Q (q + 1) (zt_up code q c) (zt_up nest q v) (zt_up mate q mt) (upd xpc q (nI c)) (upd xpn q (nI v)) xpm' := by
  refine lt_s (fun j hj => ?_) ?_
  · rw [zt_un (by omega), zt_un (by omega), zt_un (by omega), pk_un (by omega), pk_un (by omega), h1 j hj]; exact h j hj
  · rw [zt_us, zt_us, zt_us, pk_us, pk_us]; exact ⟨rfl, rfl, h2⟩
theorem zr_padd {IL B q po c : Nat} {xpc xpn xpm xoa yit : Nat → Int32} (h : zr_pth IL B q po xpc xpn xpm xoa yit) (hq : q < IL) (hc : zp_cok B c) (h5 : c < 500) :
    zr_pth IL B (q + 1) po (upd xpc q (nI c)) (upd xpn q (nI po)) xpm xoa (upd yit q (nI c)) := by
  obtain ⟨code, nest, mate, nd, oa, P, Q, Y, E, A, C⟩ := h
  refine ⟨zt_up code q c, zt_up nest q po, zt_up mate q 0, zt_up nd (q + 1) po, oa, zp_add P hc E.2.2 (by rw [if_neg (by omega)]; omega) (by rw [if_neg (by omega)]; omega) (fun z => by omega), zr_Qadd Q c po 0 (fun _ _ => rfl) (fun z => by omega), ?_, ⟨hq, by rw [zt_us], E.2.2⟩, fun d hd => ?_, ?_⟩
  · refine lt_s (fun j hj => ?_) ?_
    · rw [pk_un (by omega), zt_un (by omega)]; exact Y j hj
    · rw [pk_us, zt_us]
  · obtain ⟨a1, a2, a3, a4, a5⟩ := A d hd
    rw [zt_un (by omega), zt_un (by omega)]
    refine ⟨a1, by omega, a3, a4, fun k k1 k2 => ?_⟩
    by_cases z : k = q
    · rw [z, zt_us]; exact hd
    · rw [zt_un z]; exact a5 k k1 (by omega)
  · refine lt_s (fun i hi => ?_) ?_
    · rw [zt_un (by omega)]
      intro z
      rcases C i hi z with w | ⟨c', w1, w2, w3⟩
      · exact Or.inl w
      · exact Or.inr ⟨c', by omega, by rw [zt_un (by omega)]; exact w2, by rw [zt_un (by omega)]; exact w3⟩
    · rw [zt_us]; intro z; omega
theorem zr_popen {IL B q po c : Nat} {xpc xpn xpm xoa yit : Nat → Int32} (h : zr_pth IL B q po xpc xpn xpm xoa yit) (hq : q < IL) (hp : po < 3) (hc : c = 500 ∨ c = 501) :
    zr_pth IL B (q + 1) (po + 1) (upd xpc q (nI c)) (upd xpn q (nI po)) xpm (upd xoa po (nI q)) (upd yit q (nI c)) := by
  obtain ⟨code, nest, mate, nd, oa, P, Q, Y, E, A, C⟩ := h
  refine ⟨zt_up code q c, zt_up nest q po, zt_up mate q 0, zt_up nd (q + 1) (po + 1), zt_up oa po q, zp_add P (by unfold zp_cok; omega) (by omega) (by rw [if_neg (by omega)]; omega) (by rw [if_pos hc]) (fun z => by omega), zr_Qadd Q c po 0 (fun _ _ => rfl) (fun z => by omega), ?_, ⟨hq, by rw [zt_us], by omega⟩, ?_, ?_⟩
  · refine lt_s (fun j hj => ?_) ?_
    · rw [pk_un (by omega), zt_un (by omega)]; exact Y j hj
    · rw [pk_us, zt_us]
  · refine lt_s (fun d hd => ?_) ?_
    · obtain ⟨a1, a2, a3, a4, a5⟩ := A d hd
      rw [zt_un (f := oa) (by omega), pk_un (by omega), zt_un (by omega), zt_un (by omega)]
      refine ⟨a1, by omega, a3, a4, fun k k1 k2 => ?_⟩
      by_cases z : k = q
      · rw [z, zt_us]; exact hd
      · rw [zt_un z]; exact a5 k k1 (by omega)
    · rw [zt_us, pk_us, zt_us, zt_us]
      exact ⟨rfl, by omega, hc, rfl, fun k k1 k2 => by omega⟩
  · refine lt_s (fun i hi => ?_) ?_
    · rw [zt_un (by omega)]
      intro z
      rcases C i hi z with ⟨d, w1, w2⟩ | ⟨c', w1, w2, w3⟩
      · exact Or.inl ⟨d, by omega, by rw [zt_un (by omega)]; exact w2⟩
      · exact Or.inr ⟨c', by omega, by rw [zt_un (by omega)]; exact w2, by rw [zt_un (by omega)]; exact w3⟩
    · intro _; exact Or.inl ⟨po, by omega, zt_us⟩
theorem zr_pclose {IL B q po : Nat} {xpc xpn xpm xoa yit : Nat → Int32} (h : zr_pth IL B q (po + 1) xpc xpn xpm xoa yit) (hq : q < IL) :
    zr_pth IL B (q + 1) po (upd xpc q (nI 600)) (upd xpn q (nI po)) (upd xpm q (xoa po)) xoa (upd yit q (nI 600)) := by
  obtain ⟨code, nest, mate, nd, oa, P, Q, Y, E, A, C⟩ := h
  obtain ⟨o1, o2, o3, o4, o5⟩ := A po (by omega)
  refine ⟨zt_up code q 600, zt_up nest q po, zt_up mate q (oa po), zt_up nd (q + 1) po, oa, zp_add P (by unfold zp_cok; omega) (by omega) (by rw [if_pos rfl]; omega) (by rw [if_neg (by omega)]; omega) (fun z => ⟨o2, o3, o4, o5⟩), zr_Qadd Q 600 po (oa po) (fun j hj => pk_un (by omega)) (fun z => by rw [pk_us]; exact o1), ?_, ⟨hq, by rw [zt_us], by omega⟩, fun d hd => ?_, ?_⟩
  · refine lt_s (fun j hj => ?_) ?_
    · rw [pk_un (by omega), zt_un (by omega)]; exact Y j hj
    · rw [pk_us, zt_us]
  · obtain ⟨a1, a2, a3, a4, a5⟩ := A d (by omega)
    rw [zt_un (by omega), zt_un (by omega)]
    refine ⟨a1, by omega, a3, a4, fun k k1 k2 => ?_⟩
    by_cases z : k = q
    · rw [z, zt_us]; exact hd
    · rw [zt_un z]; exact a5 k k1 (by omega)
  · refine lt_s (fun i hi => ?_) ?_
    · rw [zt_un (by omega)]
      intro z
      rcases C i hi z with ⟨d, w1, w2⟩ | ⟨c', w1, w2, w3⟩
      · by_cases w : d = po
        · subst w
          exact Or.inr ⟨q, by omega, zt_us, by rw [zt_us]; exact w2⟩
        · exact Or.inl ⟨d, by omega, w2⟩
      · exact Or.inr ⟨c', by omega, by rw [zt_un (by omega)]; exact w2, by rw [zt_un (by omega)]; exact w3⟩
    · rw [zt_us]; intro z; omega
/-! ===== the calls ===== -/
section
variable {xL xD xI xB xn xu xbl xfl xfo xfh xpl xpo xrm xrc : Int32} {xord xrk xpar xlab xlev xsz xlm xvm xbn xbb xbv xbs xlin xgl xgv xgs xgst xpc xpn xpm xoa xsat : Nat → Int32}
variable {yL yD yI yB yn yfc yfo ypc yrc ybc ylc : Int32} {yord ypar ylab ycell yit yres ybn ybcell ylist ycur ynext yholds : Nat → Int32}
variable {L D IL B n m o hh q po k : Nat}
theorem zr_fb (h2 : zr_frag L D B m o hh xgl xgv xgs xgst ycell) : m ≤ L ∧ o ≤ D ∧ hh < D := by
  obtain ⟨fl, fv, fs, st, fp, h1, h⟩ := h2; exact h1
theorem zr_pb (h3 : zr_pth IL B q po xpc xpn xpm xoa yit) : q ≤ IL ∧ po ≤ 3 := by
  obtain ⟨code, nest, mate, nd, oa, P, Q, Y, E, A, C⟩ := h3; omega
theorem zv_open (h0 : zr_bd L D IL B) (h1 : zr_tree L D B n xu xrm xord xrk xpar xlab xlev xsz xlm xvm yord ypar ylab yres) (h2 : zr_frag L D B m o hh xgl xgv xgs xgst ycell) (h3 : zr_pth IL B q po xpc xpn xpm xoa yit) (v1 : Int32) :
    wpX_open (fun r u' => wpY_open (fun r' v' => r' = r ∧ i_Rel k u' v') (nI L, nI D, nI IL, nI B, nI n, nI m, nI o, nI q, nI (zb_ls xrm).length, ybc, ylc, yord, ypar, ylab, ycell, yit, yres, ybn, ybcell, ylist, ycur, ynext, yholds) v1) (nI L, nI D, nI IL, nI B, nI n, xu, xbl, nI m, nI o, nI hh, nI q, nI po, xrm, nI (zb_ls xrm).length, xord, xrk, xpar, xlab, xlev, xsz, xlm, xvm, xbn, xbb, xbv, xbs, xlin, xgl, xgv, xgs, xgst, xpc, xpn, xpm, xoa, xsat) v1 := by
  have fb := zr_fb h2
  have hb := h0
  unfold zr_bd at hb
  have R : i_Rel k (nI L, nI D, nI IL, nI B, nI n, xu, xbl, nI m, nI o, nI hh, nI q, nI po, xrm, nI (zb_ls xrm).length, xord, xrk, xpar, xlab, xlev, xsz, xlm, xvm, xbn, xbb, xbv, xbs, xlin, xgl, xgv, xgs, xgst, xpc, xpn, xpm, xoa, xsat) (nI L, nI D, nI IL, nI B, nI n, nI m, nI o, nI q, nI (zb_ls xrm).length, ybc, ylc, yord, ypar, ylab, ycell, yit, yres, ybn, ybcell, ylist, ycur, ynext, yholds) := zr_in h0 h1 h2 h3
  unfold wpX_open
  by_cases c : v1 < 0
  · exact br_t c (br_t c ⟨rfl, R⟩)
  · obtain ⟨j, hj, rfl⟩ := nI_of c
    refine br_f c ?_
    by_cases c1 : j < B
    · have b1 : nI j < nI B := nI_lt c1 (by omega)
      refine br_t b1 ?_
      by_cases c2 : m < L
      · have b2 : nI m < nI L := nI_lt c2 (by omega)
        refine br_t b2 ?_
        by_cases c3 : o < D
        · have b3 : nI o < nI D := nI_lt c3 (by omega)
          have cm : (nI m).toNatClampNeg = m := nI_clamp (by omega)
          have co : (nI o).toNatClampNeg = o := nI_clamp (by omega)
          have vm : vp_in (nI m) 32 := vp_in_nI (by omega) (by omega)
          have vo : vp_in (nI o) 8 := vp_in_nI (by omega) (by omega)
          have F := zr_fopen h2 c2 c3 c1
          have e8 : (8 : Int32) * nI o + nI j = nI (8 * o + j) := by rw [show (8 : Int32) = nI 8 from rfl, pk_mul, nI_add]
          have yy : ∀ h', zr_frag L D B (m + 1) (o + 1) h' (upd xgl m (nI j)) (upd xgv m (nI o)) (upd xgs m 0) (upd xgst o (nI m)) (upd ycell m (nI (8 * o + j))) → wpY_open (fun r' v' => r' = nI m ∧ i_Rel k (nI L, nI D, nI IL, nI B, nI n, xu, xbl, nI (m + 1), nI (o + 1), nI h', nI q, nI po, xrm, nI (zb_ls xrm).length, xord, xrk, xpar, xlab, xlev, xsz, xlm, xvm, xbn, xbb, xbv, xbs, xlin, upd xgl m (nI j), upd xgv m (nI o), upd xgs m 0, upd xgst o (nI m), xpc, xpn, xpm, xoa, xsat) v') (nI L, nI D, nI IL, nI B, nI n, nI m, nI o, nI q, nI (zb_ls xrm).length, ybc, ylc, yord, ypar, ylab, ycell, yit, yres, ybn, ybcell, ylist, ycur, ynext, yholds) (nI j) := by
            intro h' F'
            unfold wpY_open
            exact br_f c (br_t b1 (br_t b2 (br_t b3 ⟨vm, nm_r (e' := upd ycell m (nI (8 * o + j))) (by rw [cm, e8]) (nm_r (nI_1 o) (nm_r (nI_1 m) ⟨rfl, zr_in h0 h1 F' h3⟩))⟩)))
          refine br_t b3 ⟨vm, nm_r (e' := upd xgl m (nI j)) (by rw [cm]) ⟨vm, nm_r (e' := upd xgv m (nI o)) (by rw [cm]) ⟨vm, nm_r (e' := upd xgs m 0) (by rw [cm]) (pk_le o hh (fun z => ?_) (fun z => ?_))⟩⟩⟩
          · rw [if_pos z] at F
            exact ⟨vo, nm_r (e' := upd xgst o (nI m)) (by rw [co]) (nm_r (nI_1 o) (nm_r (nI_1 m) (yy hh F)))⟩
          · rw [if_neg (by omega)] at F
            exact ⟨vo, nm_r (e' := upd xgst o (nI m)) (by rw [co]) (nm_r (nI_1 o) (nm_r (nI_1 m) (yy o F)))⟩
        · have b3 : ¬ nI o < nI D := nI_nlt (by omega) (by omega)
          exact br_f b3 (br_f c (br_t b1 (br_t b2 (br_f b3 ⟨rfl, R⟩))))
      · have b2 : ¬ nI m < nI L := nI_nlt (by omega) (by omega)
        exact br_f b2 (br_f c (br_t b1 (br_f b2 ⟨rfl, R⟩)))
    · have b1 : ¬ nI j < nI B := nI_nlt (by omega) (by omega)
      exact br_f b1 (br_f c (br_f b1 ⟨rfl, R⟩))
theorem zv_close (h0 : zr_bd L D IL B) (h1 : zr_tree L D B n xu xrm xord xrk xpar xlab xlev xsz xlm xvm yord ypar ylab yres) (h2 : zr_frag L D B m o hh xgl xgv xgs xgst ycell) (h3 : zr_pth IL B q po xpc xpn xpm xoa yit) :
    wpX_close (fun r u' => wpY_close (fun r' v' => r' = r ∧ i_Rel k u' v') (nI L, nI D, nI IL, nI B, nI n, nI m, nI o, nI q, nI (zb_ls xrm).length, ybc, ylc, yord, ypar, ylab, ycell, yit, yres, ybn, ybcell, ylist, ycur, ynext, yholds)) (nI L, nI D, nI IL, nI B, nI n, xu, xbl, nI m, nI o, nI hh, nI q, nI po, xrm, nI (zb_ls xrm).length, xord, xrk, xpar, xlab, xlev, xsz, xlm, xvm, xbn, xbb, xbv, xbs, xlin, xgl, xgv, xgs, xgst, xpc, xpn, xpm, xoa, xsat) := by
  have fb := zr_fb h2
  have hb := h0
  unfold zr_bd at hb
  unfold wpX_close
  rcases Nat.eq_zero_or_pos o with z | z
  · subst z
    exact br_t rfl (br_t rfl ⟨rfl, zr_in h0 h1 h2 h3⟩)
  · obtain ⟨w, rfl⟩ : ∃ w, o = w + 1 := ⟨o - 1, by omega⟩
    obtain ⟨p, p1, p2, F⟩ := zr_fclose h2
    have ne : ¬ nI (w + 1) = 0 := nI_ne0 (by omega) (by omega)
    have cw : (nI w).toNatClampNeg = w := nI_clamp (by omega)
    have cp : (nI p).toNatClampNeg = p := nI_clamp (by omega)
    refine br_f ne (nm_r (nI_pred w) ⟨vp_in_nI (by omega) (by omega), nm_r (e' := nI p) (by rw [cw]; exact p2) ⟨vp_in_nI (by omega) (by omega), nm_r (e' := upd xgs p (nI (m - 1 - p))) ?_ ?_⟩⟩)
    · rw [cp, show nI m - 1 = nI (m - 1) by rw [show m = (m - 1) + 1 by omega]; exact nI_pred _, pk_sub (by omega)]
    · unfold wpY_close
      exact br_f ne (nm_r (nI_pred w) ⟨nI_pred w, zr_in h0 h1 F h3⟩)
theorem zv_discard (h0 : zr_bd L D IL B) (h1 : zr_tree L D B n xu xrm xord xrk xpar xlab xlev xsz xlm xvm yord ypar ylab yres) (h2 : zr_frag L D B m o hh xgl xgv xgs xgst ycell) (h3 : zr_pth IL B q po xpc xpn xpm xoa yit) :
    wpX_discard (fun r u' => wpY_discard (fun r' v' => r' = r ∧ i_Rel k u' v') (nI L, nI D, nI IL, nI B, nI n, nI m, nI o, nI q, nI (zb_ls xrm).length, ybc, ylc, yord, ypar, ylab, ycell, yit, yres, ybn, ybcell, ylist, ycur, ynext, yholds)) (nI L, nI D, nI IL, nI B, nI n, xu, xbl, nI m, nI o, nI hh, nI q, nI po, xrm, nI (zb_ls xrm).length, xord, xrk, xpar, xlab, xlev, xsz, xlm, xvm, xbn, xbb, xbv, xbs, xlin, xgl, xgv, xgs, xgst, xpc, xpn, xpm, xoa, xsat) := by
  have hb := h0
  unfold zr_bd at hb
  unfold wpX_discard wpY_discard
  exact ⟨rfl, zr_in (m := 0) (o := 0) (hh := 0) h0 h1 (zr_frag0 (by omega) _ _ _ _ _) h3⟩
theorem zv_clearPath (h0 : zr_bd L D IL B) (h1 : zr_tree L D B n xu xrm xord xrk xpar xlab xlev xsz xlm xvm yord ypar ylab yres) (h2 : zr_frag L D B m o hh xgl xgv xgs xgst ycell) (h3 : zr_pth IL B q po xpc xpn xpm xoa yit) :
    wpX_clearPath (fun r u' => wpY_clearPath (fun r' v' => r' = r ∧ i_Rel k u' v') (nI L, nI D, nI IL, nI B, nI n, nI m, nI o, nI q, nI (zb_ls xrm).length, ybc, ylc, yord, ypar, ylab, ycell, yit, yres, ybn, ybcell, ylist, ycur, ynext, yholds)) (nI L, nI D, nI IL, nI B, nI n, xu, xbl, nI m, nI o, nI hh, nI q, nI po, xrm, nI (zb_ls xrm).length, xord, xrk, xpar, xlab, xlev, xsz, xlm, xvm, xbn, xbb, xbv, xbs, xlin, xgl, xgv, xgs, xgst, xpc, xpn, xpm, xoa, xsat) := by
  unfold wpX_clearPath wpY_clearPath
  exact ⟨rfl, zr_in (q := 0) (po := 0) h0 h1 h2 (zr_pth0 _ _ _ _ _)⟩
/-- may a predicate follow? -/
theorem zr_hasStep (h0 : zr_bd L D IL B) (h3 : zr_pth IL B q po xpc xpn xpm xoa yit) : ∃ b : Bool, (∀ post : Int32 → Prop, post (zp_b b) → wpX_hasStep post (xL, xD, xI, xB, xn, xu, xbl, xfl, xfo, xfh, nI q, xpo, xrm, xrc, xord, xrk, xpar, xlab, xlev, xsz, xlm, xvm, xbn, xbb, xbv, xbs, xlin, xgl, xgv, xgs, xgst, xpc, xpn, xpm, xoa, xsat)) ∧ (∀ post : Int32 → Prop, post (zp_b (!b)) → wpY_noStep post (yL, yD, yI, yB, yn, yfc, yfo, nI q, yrc, ybc, ylc, yord, ypar, ylab, ycell, yit, yres, ybn, ybcell, ylist, ycur, ynext, yholds)) := by
  have hb := h0
  unfold zr_bd at hb
  obtain ⟨code, nest, mate, nd, oa, P, Q, Y, E, A, C⟩ := h3
  rcases Nat.eq_zero_or_pos q with z | z
  · subst z
    exact ⟨false, fun post hp => by unfold wpX_hasStep; exact br_t rfl hp, fun post hp => by unfold wpY_noStep; exact br_t rfl hp⟩
  · have ne : ¬ nI q = 0 := nI_ne0 z (by omega)
    have e : nI q - 1 = nI (q - 1) := by rw [show q = (q - 1) + 1 by omega]; exact nI_pred _
    have cq : (nI (q - 1)).toNatClampNeg = q - 1 := nI_clamp (by omega)
    have vq : vp_in (nI (q - 1)) 20 := vp_in_nI (by omega) (by omega)
    have ck := (P.1 (q - 1) (by omega)).1
    by_cases op : code (q - 1) = 500 ∨ code (q - 1) = 501
    · refine ⟨false, fun post hp => ?_, fun post hp => ?_⟩
      · unfold wpX_hasStep
        refine br_f ne ?_
        rw [e, cq, (Q (q - 1) (by omega)).1]
        exact ⟨vq, zx_isOpening (zp_c1000 ck) (fun _ => br_f (by decide) hp) (fun w => absurd op w)⟩
      · unfold wpY_noStep
        refine br_f ne ?_
        rw [e, cq, Y (q - 1) (by omega)]
        exact ⟨vq, zy_nest ck (fun w => by omega) (fun _ => br_t rfl hp) (fun w => by omega)⟩
    · refine ⟨true, fun post hp => ?_, fun post hp => ?_⟩
      · unfold wpX_hasStep
        refine br_f ne ?_
        rw [e, cq, (Q (q - 1) (by omega)).1]
        exact ⟨vq, zx_isOpening (zp_c1000 ck) (fun w => absurd w op) (fun _ => br_t rfl hp)⟩
      · unfold wpY_noStep
        refine br_f ne ?_
        rw [e, cq, Y (q - 1) (by omega)]
        exact ⟨vq, zy_nest ck (fun w => br_f (by decide) hp) (fun w => absurd w op) (fun w => br_f (by decide) hp)⟩
theorem zx_append {post : Int32 → SX → Prop} {c : Nat} (hq : q < 20) (h : post (nI q) (xL, xD, xI, xB, xn, xu, xbl, xfl, xfo, xfh, nI (q + 1), nI po, xrm, xrc, xord, xrk, xpar, xlab, xlev, xsz, xlm, xvm, xbn, xbb, xbv, xbs, xlin, xgl, xgv, xgs, xgst, upd xpc q (nI c), upd xpn q (nI po), xpm, xoa, xsat)) : wpX_append post (xL, xD, xI, xB, xn, xu, xbl, xfl, xfo, xfh, nI q, nI po, xrm, xrc, xord, xrk, xpar, xlab, xlev, xsz, xlm, xvm, xbn, xbb, xbv, xbs, xlin, xgl, xgv, xgs, xgst, xpc, xpn, xpm, xoa, xsat) (nI c) := by
  have cq : (nI q).toNatClampNeg = q := nI_clamp (by omega)
  have vq : vp_in (nI q) 20 := vp_in_nI (by omega) (by omega)
  unfold wpX_append
  exact ⟨vq, nm_r (e' := upd xpc q (nI c)) (by rw [cq]) ⟨vq, nm_r (e' := upd xpn q (nI po)) (by rw [cq]) (nm_r (nI_1 q) h)⟩⟩
theorem zy_add {post : Int32 → SY → Prop} {c : Nat} (hI : IL ≤ 20) (hq : q ≤ IL) (h1 : q < IL → post (nI q) (yL, yD, nI IL, yB, yn, yfc, yfo, nI (q + 1), yrc, ybc, ylc, yord, ypar, ylab, ycell, upd yit q (nI c), yres, ybn, ybcell, ylist, ycur, ynext, yholds)) (h2 : q = IL → post (-6) (yL, yD, nI IL, yB, yn, yfc, yfo, nI q, yrc, ybc, ylc, yord, ypar, ylab, ycell, yit, yres, ybn, ybcell, ylist, ycur, ynext, yholds)) : wpY_add post (yL, yD, nI IL, yB, yn, yfc, yfo, nI q, yrc, ybc, ylc, yord, ypar, ylab, ycell, yit, yres, ybn, ybcell, ylist, ycur, ynext, yholds) (nI c) := by
  have cq : (nI q).toNatClampNeg = q := nI_clamp (by omega)
  unfold wpY_add
  exact pk_lt q IL (fun z => ⟨vp_in_nI (by omega) (by omega), nm_r (e' := upd yit q (nI c)) (by rw [cq]) (nm_r (nI_1 q) (h1 z))⟩) (fun z => h2 (by omega))
theorem zv_step (h0 : zr_bd L D IL B) (h1 : zr_tree L D B n xu xrm xord xrk xpar xlab xlev xsz xlm xvm yord ypar ylab yres) (h2 : zr_frag L D B m o hh xgl xgv xgs xgst ycell) (h3 : zr_pth IL B q po xpc xpn xpm xoa yit) (v1 v2 : Int32) :
    wpX_step (fun r u' => wpY_step (fun r' v' => r' = r ∧ i_Rel k u' v') (nI L, nI D, nI IL, nI B, nI n, nI m, nI o, nI q, nI (zb_ls xrm).length, ybc, ylc, yord, ypar, ylab, ycell, yit, yres, ybn, ybcell, ylist, ycur, ynext, yholds) v1 v2) (nI L, nI D, nI IL, nI B, nI n, xu, xbl, nI m, nI o, nI hh, nI q, nI po, xrm, nI (zb_ls xrm).length, xord, xrk, xpar, xlab, xlev, xsz, xlm, xvm, xbn, xbb, xbv, xbs, xlin, xgl, xgv, xgs, xgst, xpc, xpn, xpm, xoa, xsat) v1 v2 := by
  have pb := zr_pb h3
  have hb := h0
  unfold zr_bd at hb
  have R : i_Rel k (nI L, nI D, nI IL, nI B, nI n, xu, xbl, nI m, nI o, nI hh, nI q, nI po, xrm, nI (zb_ls xrm).length, xord, xrk, xpar, xlab, xlev, xsz, xlm, xvm, xbn, xbb, xbv, xbs, xlin, xgl, xgv, xgs, xgst, xpc, xpn, xpm, xoa, xsat) (nI L, nI D, nI IL, nI B, nI n, nI m, nI o, nI q, nI (zb_ls xrm).length, ybc, ylc, yord, ypar, ylab, ycell, yit, yres, ybn, ybcell, ylist, ycur, ynext, yholds) := zr_in h0 h1 h2 h3
  unfold wpX_step
  by_cases c1 : v1 < 0
  · exact br_t c1 (br_t c1 ⟨rfl, R⟩)
  · refine br_f c1 ?_
    by_cases c2 : v1 ≤ 10
    · refine br_t c2 ?_
      by_cases c3 : v2 < -1
      · exact br_t c3 (br_f c1 (br_t c2 (br_t c3 ⟨rfl, R⟩)))
      · refine br_f c3 ?_
        by_cases c4 : v2 < nI B
        · obtain ⟨ax, hax, rfl⟩ := nI_of2 (M := 10) (n := 10) (by decide) c1 c2
          -- v2 + 1 is a small number
          obtain ⟨w, hw, ew⟩ : ∃ w, w ≤ B ∧ v2 = nI w - 1 := by
            have m1 : (-1 : Int32).toInt = -1 := by decide
            rw [Int32.lt_iff_toInt_lt, m1] at c3
            rw [Int32.lt_iff_toInt_lt, nI_toInt (by omega)] at c4
            refine ⟨(v2.toInt + 1).toNat, by omega, ?_⟩
            apply Int32.toInt_inj.mp
            have := pk_sub_toInt (a := (v2.toInt + 1).toNat) (b := 1) (by omega) (by omega)
            rw [show (1 : Int32) = nI 1 from rfl, this]
            omega
          have ec : ((100 + 10 * nI ax) + v2) + 1 = nI (100 + 10 * ax + w) := by
            rw [ew, ← nI_add (100 + 10 * ax) w, ← nI_add 100, ← pk_mul, show nI 100 = 100 from rfl, show nI 10 = 10 from rfl]
            grind
          refine br_t c4 ?_
          rw [ec]
          have ck : zp_cok B (100 + 10 * ax + w) := by unfold zp_cok; omega
          have yy : ∀ (post : Int32 → SY → Prop), (q < IL → post (nI q) (nI L, nI D, nI IL, nI B, nI n, nI m, nI o, nI (q + 1), nI (zb_ls xrm).length, ybc, ylc, yord, ypar, ylab, ycell, upd yit q (nI (100 + 10 * ax + w)), yres, ybn, ybcell, ylist, ycur, ynext, yholds)) → (q = IL → post (-6) (nI L, nI D, nI IL, nI B, nI n, nI m, nI o, nI q, nI (zb_ls xrm).length, ybc, ylc, yord, ypar, ylab, ycell, yit, yres, ybn, ybcell, ylist, ycur, ynext, yholds)) → wpY_step post (nI L, nI D, nI IL, nI B, nI n, nI m, nI o, nI q, nI (zb_ls xrm).length, ybc, ylc, yord, ypar, ylab, ycell, yit, yres, ybn, ybcell, ylist, ycur, ynext, yholds) (nI ax) v2 := by
            intro post y1 y2
            unfold wpY_step
            refine br_f c1 (br_t c2 (br_f c3 (br_t c4 ?_)))
            rw [ec]
            exact zy_add (by omega) pb.1 y1 y2
          refine pk_lt q IL (fun z => zx_append (by omega) (yy _ (fun _ => ⟨rfl, zr_in h0 h1 h2 (zr_padd h3 z ck (by omega))⟩) (fun w => by omega))) (fun z => yy _ (fun w => by omega) (fun _ => ⟨rfl, R⟩))
        · exact br_f c4 (br_f c1 (br_t c2 (br_f c3 (br_f c4 ⟨rfl, R⟩))))
    · exact br_f c2 (br_f c1 (br_f c2 ⟨rfl, R⟩))
theorem zv_position (h0 : zr_bd L D IL B) (h1 : zr_tree L D B n xu xrm xord xrk xpar xlab xlev xsz xlm xvm yord ypar ylab yres) (h2 : zr_frag L D B m o hh xgl xgv xgs xgst ycell) (h3 : zr_pth IL B q po xpc xpn xpm xoa yit) (v1 : Int32) :
    wpX_position (fun r u' => wpY_position (fun r' v' => r' = r ∧ i_Rel k u' v') (nI L, nI D, nI IL, nI B, nI n, nI m, nI o, nI q, nI (zb_ls xrm).length, ybc, ylc, yord, ypar, ylab, ycell, yit, yres, ybn, ybcell, ylist, ycur, ynext, yholds) v1) (nI L, nI D, nI IL, nI B, nI n, xu, xbl, nI m, nI o, nI hh, nI q, nI po, xrm, nI (zb_ls xrm).length, xord, xrk, xpar, xlab, xlev, xsz, xlm, xvm, xbn, xbb, xbv, xbs, xlin, xgl, xgv, xgs, xgst, xpc, xpn, xpm, xoa, xsat) v1 := by
  have pb := zr_pb h3
  have hb := h0
  unfold zr_bd at hb
  have R : i_Rel k (nI L, nI D, nI IL, nI B, nI n, xu, xbl, nI m, nI o, nI hh, nI q, nI po, xrm, nI (zb_ls xrm).length, xord, xrk, xpar, xlab, xlev, xsz, xlm, xvm, xbn, xbb, xbv, xbs, xlin, xgl, xgv, xgs, xgst, xpc, xpn, xpm, xoa, xsat) (nI L, nI D, nI IL, nI B, nI n, nI m, nI o, nI q, nI (zb_ls xrm).length, ybc, ylc, yord, ypar, ylab, ycell, yit, yres, ybn, ybcell, ylist, ycur, ynext, yholds) := zr_in h0 h1 h2 h3
  obtain ⟨b, sx, sy⟩ := zr_hasStep h0 h3
  unfold wpX_position
  by_cases c1 : v1 = 0
  · exact br_t c1 (br_t c1 ⟨rfl, R⟩)
  · refine br_f c1 ?_
    by_cases c2 : v1 < -32
    · exact br_t c2 (br_f c1 (br_t c2 ⟨rfl, R⟩))
    · refine br_f c2 ?_
      by_cases c3 : v1 ≤ 32
      · refine br_t c3 (sx _ ?_)
        obtain ⟨w, hw, ew⟩ : ∃ w, (368 ≤ w ∧ w ≤ 432 ∧ w ≠ 400) ∧ 400 + v1 = nI w := by
          have m1 : (-32 : Int32).toInt = -32 := by decide
          have m2 : (32 : Int32).toInt = 32 := by decide
          have m0 : (0 : Int32).toInt = 0 := by decide
          rw [Int32.lt_iff_toInt_lt, m1] at c2
          rw [Int32.le_iff_toInt_le, m2] at c3
          rw [← Int32.toInt_inj, m0] at c1
          refine ⟨(400 + v1.toInt).toNat, by omega, ?_⟩
          apply Int32.toInt_inj.mp
          rw [Int32.toInt_add, nI_toInt (by omega), show (400 : Int32).toInt = 400 from by decide]
          rw [Int.bmod_eq_of_le (by omega) (by omega)]
          omega
        have ck : zp_cok B w := by unfold zp_cok; omega
        cases b
        · exact br_t rfl (by unfold wpY_position; exact br_f c1 (br_f c2 (br_t c3 (sy _ (br_f (by decide) ⟨rfl, R⟩)))))
        · refine br_f (by decide) ?_
          rw [ew]
          have yy : ∀ (post : Int32 → SY → Prop), (q < IL → post (nI q) (nI L, nI D, nI IL, nI B, nI n, nI m, nI o, nI (q + 1), nI (zb_ls xrm).length, ybc, ylc, yord, ypar, ylab, ycell, upd yit q (nI w), yres, ybn, ybcell, ylist, ycur, ynext, yholds)) → (q = IL → post (-6) (nI L, nI D, nI IL, nI B, nI n, nI m, nI o, nI q, nI (zb_ls xrm).length, ybc, ylc, yord, ypar, ylab, ycell, yit, yres, ybn, ybcell, ylist, ycur, ynext, yholds)) → wpY_position post (nI L, nI D, nI IL, nI B, nI n, nI m, nI o, nI q, nI (zb_ls xrm).length, ybc, ylc, yord, ypar, ylab, ycell, yit, yres, ybn, ybcell, ylist, ycur, ynext, yholds) v1 := by
            intro post y1 y2
            unfold wpY_position
            refine br_f c1 (br_f c2 (br_t c3 (sy _ (br_t rfl ?_))))
            rw [ew]
            exact zy_add (by omega) pb.1 y1 y2
          exact pk_lt q IL (fun z => zx_append (by omega) (yy _ (fun _ => ⟨rfl, zr_in h0 h1 h2 (zr_padd h3 z ck (by omega))⟩) (fun w => by omega))) (fun z => yy _ (fun w => by omega) (fun _ => ⟨rfl, R⟩))
      · exact br_f c3 (br_f c1 (br_f c2 (br_f c3 ⟨rfl, R⟩)))
theorem zv_openPredicate (h0 : zr_bd L D IL B) (h1 : zr_tree L D B n xu xrm xord xrk xpar xlab xlev xsz xlm xvm yord ypar ylab yres) (h2 : zr_frag L D B m o hh xgl xgv xgs xgst ycell) (h3 : zr_pth IL B q po xpc xpn xpm xoa yit) (v1 : Int32) :
    wpX_openPredicate (fun r u' => wpY_openPredicate (fun r' v' => r' = r ∧ i_Rel k u' v') (nI L, nI D, nI IL, nI B, nI n, nI m, nI o, nI q, nI (zb_ls xrm).length, ybc, ylc, yord, ypar, ylab, ycell, yit, yres, ybn, ybcell, ylist, ycur, ynext, yholds) (lw_bz v1)) (nI L, nI D, nI IL, nI B, nI n, xu, xbl, nI m, nI o, nI hh, nI q, nI po, xrm, nI (zb_ls xrm).length, xord, xrk, xpar, xlab, xlev, xsz, xlm, xvm, xbn, xbb, xbv, xbs, xlin, xgl, xgv, xgs, xgst, xpc, xpn, xpm, xoa, xsat) (lw_bz v1) := by
  have pb := zr_pb h3
  have hb := h0
  unfold zr_bd at hb
  have R : i_Rel k (nI L, nI D, nI IL, nI B, nI n, xu, xbl, nI m, nI o, nI hh, nI q, nI po, xrm, nI (zb_ls xrm).length, xord, xrk, xpar, xlab, xlev, xsz, xlm, xvm, xbn, xbb, xbv, xbs, xlin, xgl, xgv, xgs, xgst, xpc, xpn, xpm, xoa, xsat) (nI L, nI D, nI IL, nI B, nI n, nI m, nI o, nI q, nI (zb_ls xrm).length, ybc, ylc, yord, ypar, ylab, ycell, yit, yres, ybn, ybcell, ylist, ycur, ynext, yholds) := zr_in h0 h1 h2 h3
  obtain ⟨b, sx, sy⟩ := zr_hasStep h0 h3
  have un : ∀ post : Int32 → Prop, post (nI po) → wpY_unclosed post (nI L, nI D, nI IL, nI B, nI n, nI m, nI o, nI q, nI (zb_ls xrm).length, ybc, ylc, yord, ypar, ylab, ycell, yit, yres, ybn, ybcell, ylist, ycur, ynext, yholds) := by
    intro post hp
    obtain ⟨code, nest, mate, nd, oa, P, Q, Y, E, A, C⟩ := h3
    rw [E.2.1] at hp
    exact zy_unclosed (by omega) P Y hp
  unfold wpX_openPredicate
  refine sx _ ?_
  cases b
  · exact br_t rfl (by unfold wpY_openPredicate; exact sy _ (br_f (by decide) ⟨rfl, R⟩))
  · refine br_f (by decide) ?_
    have yy : ∀ (post : Int32 → SY → Prop), (∀ c, (c = 500 ∨ c = 501) → (lw_bz v1 = 0 ∧ c = 500 ∨ ¬ lw_bz v1 = 0 ∧ c = 501) → po < 3 → (q < IL → post (nI q) (nI L, nI D, nI IL, nI B, nI n, nI m, nI o, nI (q + 1), nI (zb_ls xrm).length, ybc, ylc, yord, ypar, ylab, ycell, upd yit q (nI c), yres, ybn, ybcell, ylist, ycur, ynext, yholds)) ∧ (q = IL → post (-6) (nI L, nI D, nI IL, nI B, nI n, nI m, nI o, nI q, nI (zb_ls xrm).length, ybc, ylc, yord, ypar, ylab, ycell, yit, yres, ybn, ybcell, ylist, ycur, ynext, yholds))) → (3 ≤ po → post (-7) (nI L, nI D, nI IL, nI B, nI n, nI m, nI o, nI q, nI (zb_ls xrm).length, ybc, ylc, yord, ypar, ylab, ycell, yit, yres, ybn, ybcell, ylist, ycur, ynext, yholds)) → wpY_openPredicate post (nI L, nI D, nI IL, nI B, nI n, nI m, nI o, nI q, nI (zb_ls xrm).length, ybc, ylc, yord, ypar, ylab, ycell, yit, yres, ybn, ybcell, ylist, ycur, ynext, yholds) (lw_bz v1) := by
      intro post y1 y2
      unfold wpY_openPredicate
      refine sy _ (br_t rfl (un _ (pk_lt po 3 (fun z => br_c (fun w => ?_) (fun w => ?_)) y2)))
      · have := y1 500 (Or.inl rfl) (Or.inl ⟨w, rfl⟩) z
        exact zy_add (by omega) pb.1 this.1 this.2
      · have := y1 501 (Or.inr rfl) (Or.inr ⟨w, rfl⟩) z
        exact zy_add (by omega) pb.1 this.1 this.2
    refine pk_lt po 3 (fun z => pk_lt q IL (fun w => ?_) (fun w => ?_)) (fun z => yy _ (fun c _ _ w => by omega) (fun _ => ⟨rfl, R⟩))
    · have fin : ∀ c, (c = 500 ∨ c = 501) → (lw_bz v1 = 0 ∧ c = 500 ∨ ¬ lw_bz v1 = 0 ∧ c = 501) → wX_openPredicate_48 (fun r u' => wpY_openPredicate (fun r' v' => r' = r ∧ i_Rel k u' v') (nI L, nI D, nI IL, nI B, nI n, nI m, nI o, nI q, nI (zb_ls xrm).length, ybc, ylc, yord, ypar, ylab, ycell, yit, yres, ybn, ybcell, ylist, ycur, ynext, yholds) (lw_bz v1)) (nI c) (nI L) (nI D) (nI IL) (nI B) (nI n) xu xbl (nI m) (nI o) (nI hh) (nI q) (nI po) xrm (nI (zb_ls xrm).length) xord xrk xpar xlab xlev xsz xlm xvm xbn xbb xbv xbs xlin xgl xgv xgs xgst xpc xpn xpm xoa xsat := by
        intro c hc hs
        have cp : (nI po).toNatClampNeg = po := nI_clamp (by omega)
        unfold wX_openPredicate_48
        refine zx_append (by omega) ⟨vp_in_nI (by omega) (by omega), nm_r (e' := upd xoa po (nI q)) (by rw [cp]) (nm_r (nI_1 po) (yy _ (fun c' hc' hs' _ => ?_) (fun w => by omega)))⟩
        have ecc : c' = c := by
          rcases hs with ⟨a1, a2⟩ | ⟨a1, a2⟩
          · rcases hs' with ⟨b1, b2⟩ | ⟨b1, b2⟩
            · omega
            · exact absurd a1 b1
          · rcases hs' with ⟨b1, b2⟩ | ⟨b1, b2⟩
            · exact absurd b1 a1
            · omega
        subst ecc
        exact ⟨fun _ => ⟨rfl, zr_in h0 h1 h2 (zr_popen h3 w z hc)⟩, fun w => by omega⟩
      exact br_c (fun y => fin 500 (Or.inl rfl) (Or.inl ⟨y, rfl⟩)) (fun y => fin 501 (Or.inr rfl) (Or.inr ⟨y, rfl⟩))
    · exact yy _ (fun c _ _ _ => ⟨fun y => by omega, fun _ => ⟨rfl, R⟩⟩) (fun y => by omega)
theorem zv_closePredicate (h0 : zr_bd L D IL B) (h1 : zr_tree L D B n xu xrm xord xrk xpar xlab xlev xsz xlm xvm yord ypar ylab yres) (h2 : zr_frag L D B m o hh xgl xgv xgs xgst ycell) (h3 : zr_pth IL B q po xpc xpn xpm xoa yit) :
    wpX_closePredicate (fun r u' => wpY_closePredicate (fun r' v' => r' = r ∧ i_Rel k u' v') (nI L, nI D, nI IL, nI B, nI n, nI m, nI o, nI q, nI (zb_ls xrm).length, ybc, ylc, yord, ypar, ylab, ycell, yit, yres, ybn, ybcell, ylist, ycur, ynext, yholds)) (nI L, nI D, nI IL, nI B, nI n, xu, xbl, nI m, nI o, nI hh, nI q, nI po, xrm, nI (zb_ls xrm).length, xord, xrk, xpar, xlab, xlev, xsz, xlm, xvm, xbn, xbb, xbv, xbs, xlin, xgl, xgv, xgs, xgst, xpc, xpn, xpm, xoa, xsat) := by
  have pb := zr_pb h3
  have hb := h0
  unfold zr_bd at hb
  have R : i_Rel k (nI L, nI D, nI IL, nI B, nI n, xu, xbl, nI m, nI o, nI hh, nI q, nI po, xrm, nI (zb_ls xrm).length, xord, xrk, xpar, xlab, xlev, xsz, xlm, xvm, xbn, xbb, xbv, xbs, xlin, xgl, xgv, xgs, xgst, xpc, xpn, xpm, xoa, xsat) (nI L, nI D, nI IL, nI B, nI n, nI m, nI o, nI q, nI (zb_ls xrm).length, ybc, ylc, yord, ypar, ylab, ycell, yit, yres, ybn, ybcell, ylist, ycur, ynext, yholds) := zr_in h0 h1 h2 h3
  obtain ⟨b, sx, sy⟩ := zr_hasStep h0 h3
  have un : ∀ post : Int32 → Prop, post (nI po) → wpY_unclosed post (nI L, nI D, nI IL, nI B, nI n, nI m, nI o, nI q, nI (zb_ls xrm).length, ybc, ylc, yord, ypar, ylab, ycell, yit, yres, ybn, ybcell, ylist, ycur, ynext, yholds) := by
    intro post hp
    obtain ⟨code, nest, mate, nd, oa, P, Q, Y, E, A, C⟩ := h3
    rw [E.2.1] at hp
    exact zy_unclosed (by omega) P Y hp
  unfold wpX_closePredicate
  rcases Nat.eq_zero_or_pos po with z | z
  · have e0 : nI po = 0 := by rw [z]; rfl
    refine br_t e0 ?_
    unfold wpY_closePredicate
    exact un _ (br_t e0 ⟨rfl, R⟩)
  · have ne : ¬ nI po = 0 := nI_ne0 z (by omega)
    refine br_f ne (sx _ ?_)
    cases b
    · refine br_t rfl ?_
      unfold wpY_closePredicate
      exact un _ (br_f ne (sy _ (br_f (by decide) ⟨rfl, R⟩)))
    · refine br_f (by decide) ?_
      have yy : ∀ (post : Int32 → SY → Prop), (q < IL → post (nI q) (nI L, nI D, nI IL, nI B, nI n, nI m, nI o, nI (q + 1), nI (zb_ls xrm).length, ybc, ylc, yord, ypar, ylab, ycell, upd yit q (nI 600), yres, ybn, ybcell, ylist, ycur, ynext, yholds)) → (q = IL → post (-6) (nI L, nI D, nI IL, nI B, nI n, nI m, nI o, nI q, nI (zb_ls xrm).length, ybc, ylc, yord, ypar, ylab, ycell, yit, yres, ybn, ybcell, ylist, ycur, ynext, yholds)) → wpY_closePredicate post (nI L, nI D, nI IL, nI B, nI n, nI m, nI o, nI q, nI (zb_ls xrm).length, ybc, ylc, yord, ypar, ylab, ycell, yit, yres, ybn, ybcell, ylist, ycur, ynext, yholds) := by
        intro post y1 y2
        unfold wpY_closePredicate
        exact un _ (br_f ne (sy _ (br_t rfl (zy_add (by omega) pb.1 y1 y2))))
      refine pk_lt q IL (fun w => ?_) (fun w => yy _ (fun y => by omega) (fun _ => ⟨rfl, R⟩))
      obtain ⟨p, rfl⟩ : ∃ p, po = p + 1 := ⟨po - 1, by omega⟩
      have cp : (nI p).toNatClampNeg = p := nI_clamp (by omega)
      have cq : (nI q).toNatClampNeg = q := nI_clamp (by omega)
      refine nm_r (nI_pred p) (zx_append (c := 600) (by omega) ⟨vp_in_nI (by omega) (by omega), vp_in_nI (by omega) (by omega), nm_r (e' := upd xpm q (xoa p)) (by rw [cp, cq]) (yy _ (fun _ => ⟨rfl, zr_in h0 h1 h2 (zr_pclose h3 w)⟩) (fun y => by omega))⟩)
end
end
section
/-! ===== getters, relabel ===== -/
theorem zp_kpre (kp : Nat → Bool) (g : Nat → Nat) (p : Nat) : ∀ d, ∃ r, zp_kp kp g (p + d) = zp_kp kp g p ++ r
  | 0 => ⟨[], by rw [Nat.add_zero, List.append_nil]⟩
  | d + 1 => by
    obtain ⟨r, e⟩ := zp_kpre kp g p d
    show ∃ r, (if kp (p + d) = true then zp_kp kp g (p + d) ++ [g (p + d)] else zp_kp kp g (p + d)) = _
    by_cases c : kp (p + d) = true
    · rw [if_pos c, e]; exact ⟨r ++ [g (p + d)], by rw [List.append_assoc]⟩
    · rw [if_neg c, e]; exact ⟨r, rfl⟩
theorem zp_knil {kp : Nat → Bool} {g : Nat → Nat} : ∀ {p : Nat}, (∀ k, k < p → kp k = false) → zp_kp kp g p = []
  | 0, _ => rfl
  | p + 1, h => by
    unfold zp_kp
    rw [if_neg (by rw [h p (by omega)]; exact Bool.noConfusion)]
    exact zp_knil (fun k hk => h k (by omega))
section
variable {xL xD xI xB xn xu xbl xfl xfo xfh xpl xpo xrm xrc : Int32} {xord xrk xpar xlab xlev xsz xlm xvm xbn xbb xbv xbs xlin xgl xgv xgs xgst xpc xpn xpm xoa xsat : Nat → Int32}
variable {yL yD yI yB yn yfc yfo ypc yrc ybc ylc : Int32} {yord ypar ylab ycell yit yres ybn ybcell ylist ycur ynext yholds : Nat → Int32}
variable {L D IL B n m o hh q po k : Nat}
theorem zx_nodeInMask {post : Int32 → Prop} {ord : Nat → Nat} {M v : Int32} (hn : n ≤ 32) (O : ∀ i, i < n → xord i = nI (ord i)) (hM : ∀ y, bt M y = true → y < n)
    (h1 : ∀ t, (ht : t < (zb_ls M).length) → v = nI t → post (nI (ord (zb_ls M)[t]))) (h0 : (∀ t, t < (zb_ls M).length → v ≠ nI t) → post (-1)) : wpX_nodeInMask post (xL, xD, xI, xB, xn, xu, xbl, xfl, xfo, xfh, xpl, xpo, xrm, xrc, xord, xrk, xpar, xlab, xlev, xsz, xlm, xvm, xbn, xbb, xbv, xbs, xlin, xgl, xgv, xgs, xgst, xpc, xpn, xpm, xoa, xsat) M v := by
  have l32 := zb_len M
  unfold wpX_nodeInMask
  refine zx_bitCount ?_
  by_cases c : v < 0
  · exact br_t c (h0 fun t ht e => by rw [e] at c; exact nI_pos (by omega) c)
  · obtain ⟨j, hj, rfl⟩ := nI_of c
    refine br_f c (pk_lt j (zb_ls M).length (fun z => zx_select z ?_) (fun z => h0 fun t ht e => ?_))
    · have g := zb_get z
      have gn := hM _ g.2
      refine ⟨vp_in_nI g.1 (by omega), ?_⟩
      rw [nI_clamp (by omega), O _ gn]
      exact h1 j z rfl
    · have := (nI_eq (by omega) (by omega)).mp e
      omega
theorem zv_count (h0 : zr_bd L D IL B) (h1 : zr_tree L D B n xu xrm xord xrk xpar xlab xlev xsz xlm xvm yord ypar ylab yres) (h2 : zr_frag L D B m o hh xgl xgv xgs xgst ycell) (h3 : zr_pth IL B q po xpc xpn xpm xoa yit) (v1 : Int32) :
    wpX_count (fun r => wpY_count (fun r' => r' = r ∧ i_Rel k (nI L, nI D, nI IL, nI B, nI n, xu, xbl, nI m, nI o, nI hh, nI q, nI po, xrm, nI (zb_ls xrm).length, xord, xrk, xpar, xlab, xlev, xsz, xlm, xvm, xbn, xbb, xbv, xbs, xlin, xgl, xgv, xgs, xgst, xpc, xpn, xpm, xoa, xsat) (nI L, nI D, nI IL, nI B, nI n, nI m, nI o, nI q, nI (zb_ls xrm).length, ybc, ylc, yord, ypar, ylab, ycell, yit, yres, ybn, ybcell, ylist, ycur, ynext, yholds)) (nI L, nI D, nI IL, nI B, nI n, nI m, nI o, nI q, nI (zb_ls xrm).length, ybc, ylc, yord, ypar, ylab, ycell, yit, yres, ybn, ybcell, ylist, ycur, ynext, yholds) v1) (nI L, nI D, nI IL, nI B, nI n, xu, xbl, nI m, nI o, nI hh, nI q, nI po, xrm, nI (zb_ls xrm).length, xord, xrk, xpar, xlab, xlev, xsz, xlm, xvm, xbn, xbb, xbv, xbs, xlin, xgl, xgv, xgs, xgst, xpc, xpn, xpm, xoa, xsat) v1 := by
  have pb := zr_pb h3
  have hb := h0
  unfold zr_bd at hb
  have R : i_Rel k (nI L, nI D, nI IL, nI B, nI n, xu, xbl, nI m, nI o, nI hh, nI q, nI po, xrm, nI (zb_ls xrm).length, xord, xrk, xpar, xlab, xlev, xsz, xlm, xvm, xbn, xbb, xbv, xbs, xlin, xgl, xgv, xgs, xgst, xpc, xpn, xpm, xoa, xsat) (nI L, nI D, nI IL, nI B, nI n, nI m, nI o, nI q, nI (zb_ls xrm).length, ybc, ylc, yord, ypar, ylab, ycell, yit, yres, ybn, ybcell, ylist, ycur, ynext, yholds) := zr_in h0 h1 h2 h3
  have un : ∀ post : Int32 → Prop, post (nI po) → wpY_unclosed post (nI L, nI D, nI IL, nI B, nI n, nI m, nI o, nI q, nI (zb_ls xrm).length, ybc, ylc, yord, ypar, ylab, ycell, yit, yres, ybn, ybcell, ylist, ycur, ynext, yholds) := by
    intro post hp
    obtain ⟨code, nest, mate, nd, oa, P, Q, Y, E, A, C⟩ := h3
    rw [E.2.1] at hp
    exact zy_unclosed (by omega) P Y hp
  have none : (∀ j, j < 6 → ¬ v1 = nI j) → wpY_count (fun r' => r' = -1 ∧ i_Rel k (nI L, nI D, nI IL, nI B, nI n, xu, xbl, nI m, nI o, nI hh, nI q, nI po, xrm, nI (zb_ls xrm).length, xord, xrk, xpar, xlab, xlev, xsz, xlm, xvm, xbn, xbb, xbv, xbs, xlin, xgl, xgv, xgs, xgst, xpc, xpn, xpm, xoa, xsat) (nI L, nI D, nI IL, nI B, nI n, nI m, nI o, nI q, nI (zb_ls xrm).length, ybc, ylc, yord, ypar, ylab, ycell, yit, yres, ybn, ybcell, ylist, ycur, ynext, yholds)) (nI L, nI D, nI IL, nI B, nI n, nI m, nI o, nI q, nI (zb_ls xrm).length, ybc, ylc, yord, ypar, ylab, ycell, yit, yres, ybn, ybcell, ylist, ycur, ynext, yholds) v1 := by
    intro ne
    unfold wpY_count
    exact br_f (ne 0 (by omega)) (br_f (ne 1 (by omega)) (br_f (ne 2 (by omega)) (br_f (ne 3 (by omega)) (br_f (ne 4 (by omega)) (br_f (ne 5 (by omega)) ⟨rfl, R⟩)))))
  unfold wpX_count
  by_cases c1 : v1 < 0
  · exact br_t c1 (none fun j hj e => by rw [e] at c1; exact nI_pos (by omega) c1)
  · obtain ⟨j, hj, rfl⟩ := nI_of c1
    refine br_f c1 (pk_lt 5 j (fun z => none fun i hi e => ?_) (fun z => ?_))
    · have := (nI_eq (by omega) (by omega)).mp e
      omega
    · have e : j = 0 ∨ j = 1 ∨ j = 2 ∨ j = 3 ∨ j = 4 ∨ j = 5 := by omega
      unfold wpY_count
      rcases e with rfl | rfl | rfl | rfl | rfl | rfl
      · exact br_t (by decide) (br_t (by decide) ⟨rfl, R⟩)
      · exact br_f (by decide) (br_t (by decide) (br_f (by decide) (br_t (by decide) ⟨rfl, R⟩)))
      · exact br_f (by decide) (br_f (by decide) (br_t (by decide) (br_f (by decide) (br_f (by decide) (br_t (by decide) ⟨rfl, R⟩)))))
      · exact br_f (by decide) (br_f (by decide) (br_f (by decide) (br_t (by decide) (br_f (by decide) (br_f (by decide) (br_f (by decide) (br_t (by decide) ⟨rfl, R⟩)))))))
      · exact br_f (by decide) (br_f (by decide) (br_f (by decide) (br_f (by decide) (br_t (by decide) (br_f (by decide) (br_f (by decide) (br_f (by decide) (br_f (by decide) (br_t (by decide) ⟨rfl, R⟩)))))))))
      · exact br_f (by decide) (br_f (by decide) (br_f (by decide) (br_f (by decide) (br_f (by decide) (br_t (by decide) (br_f (by decide) (br_f (by decide) (br_f (by decide) (br_f (by decide) (br_f (by decide) (br_t (by decide) (un _ ⟨rfl, R⟩))))))))))))
theorem zv_nodeAt (h0 : zr_bd L D IL B) (h1 : zr_tree L D B n xu xrm xord xrk xpar xlab xlev xsz xlm xvm yord ypar ylab yres) (h2 : zr_frag L D B m o hh xgl xgv xgs xgst ycell) (h3 : zr_pth IL B q po xpc xpn xpm xoa yit) (v1 : Int32) :
    wpX_nodeAt (fun r => wpY_nodeAt (fun r' => r' = r ∧ i_Rel k (nI L, nI D, nI IL, nI B, nI n, xu, xbl, nI m, nI o, nI hh, nI q, nI po, xrm, nI (zb_ls xrm).length, xord, xrk, xpar, xlab, xlev, xsz, xlm, xvm, xbn, xbb, xbv, xbs, xlin, xgl, xgv, xgs, xgst, xpc, xpn, xpm, xoa, xsat) (nI L, nI D, nI IL, nI B, nI n, nI m, nI o, nI q, nI (zb_ls xrm).length, ybc, ylc, yord, ypar, ylab, ycell, yit, yres, ybn, ybcell, ylist, ycur, ynext, yholds)) (nI L, nI D, nI IL, nI B, nI n, nI m, nI o, nI q, nI (zb_ls xrm).length, ybc, ylc, yord, ypar, ylab, ycell, yit, yres, ybn, ybcell, ylist, ycur, ynext, yholds) v1) (nI L, nI D, nI IL, nI B, nI n, xu, xbl, nI m, nI o, nI hh, nI q, nI po, xrm, nI (zb_ls xrm).length, xord, xrk, xpar, xlab, xlev, xsz, xlm, xvm, xbn, xbb, xbv, xbs, xlin, xgl, xgv, xgs, xgst, xpc, xpn, xpm, xoa, xsat) v1 := by
  have R : i_Rel k (nI L, nI D, nI IL, nI B, nI n, xu, xbl, nI m, nI o, nI hh, nI q, nI po, xrm, nI (zb_ls xrm).length, xord, xrk, xpar, xlab, xlev, xsz, xlm, xvm, xbn, xbb, xbv, xbs, xlin, xgl, xgv, xgs, xgst, xpc, xpn, xpm, xoa, xsat) (nI L, nI D, nI IL, nI B, nI n, nI m, nI o, nI q, nI (zb_ls xrm).length, ybc, ylc, yord, ypar, ylab, ycell, yit, yres, ybn, ybcell, ylist, ycur, ynext, yholds) := zr_in h0 h1 h2 h3
  obtain ⟨ord, lev, lab, sz, pr, T, U, X, Y, M1, M2⟩ := h1
  have hb := T.2.1
  unfold wpX_nodeAt wpY_nodeAt
  by_cases c : v1 < 0
  · exact br_t c (br_t c ⟨rfl, R⟩)
  · obtain ⟨j, hj, rfl⟩ := nI_of c
    refine br_f c (pk_lt j n (fun z => ⟨vp_in_nI (by omega) (by omega), br_f c (br_t (nI_lt z (by omega)) ⟨vp_in_nI (by omega) (by omega), ?_, R⟩)⟩) (fun z => br_f c (br_f (nI_nlt z hj) ⟨rfl, R⟩)))
    rw [nI_clamp hj, Y.1 j z, (X.1 j z).1]
theorem zv_nodeField (h0 : zr_bd L D IL B) (h1 : zr_tree L D B n xu xrm xord xrk xpar xlab xlev xsz xlm xvm yord ypar ylab yres) (h2 : zr_frag L D B m o hh xgl xgv xgs xgst ycell) (h3 : zr_pth IL B q po xpc xpn xpm xoa yit) (v1 v2 : Int32) :
    wpX_nodeField (fun r => wpY_nodeField (fun r' => r' = r ∧ i_Rel k (nI L, nI D, nI IL, nI B, nI n, xu, xbl, nI m, nI o, nI hh, nI q, nI po, xrm, nI (zb_ls xrm).length, xord, xrk, xpar, xlab, xlev, xsz, xlm, xvm, xbn, xbb, xbv, xbs, xlin, xgl, xgv, xgs, xgst, xpc, xpn, xpm, xoa, xsat) (nI L, nI D, nI IL, nI B, nI n, nI m, nI o, nI q, nI (zb_ls xrm).length, ybc, ylc, yord, ypar, ylab, ycell, yit, yres, ybn, ybcell, ylist, ycur, ynext, yholds)) (nI L, nI D, nI IL, nI B, nI n, nI m, nI o, nI q, nI (zb_ls xrm).length, ybc, ylc, yord, ypar, ylab, ycell, yit, yres, ybn, ybcell, ylist, ycur, ynext, yholds) v1 v2) (nI L, nI D, nI IL, nI B, nI n, xu, xbl, nI m, nI o, nI hh, nI q, nI po, xrm, nI (zb_ls xrm).length, xord, xrk, xpar, xlab, xlev, xsz, xlm, xvm, xbn, xbb, xbv, xbs, xlin, xgl, xgv, xgs, xgst, xpc, xpn, xpm, xoa, xsat) v1 v2 := by
  have R : i_Rel k (nI L, nI D, nI IL, nI B, nI n, xu, xbl, nI m, nI o, nI hh, nI q, nI po, xrm, nI (zb_ls xrm).length, xord, xrk, xpar, xlab, xlev, xsz, xlm, xvm, xbn, xbb, xbv, xbs, xlin, xgl, xgv, xgs, xgst, xpc, xpn, xpm, xoa, xsat) (nI L, nI D, nI IL, nI B, nI n, nI m, nI o, nI q, nI (zb_ls xrm).length, ybc, ylc, yord, ypar, ylab, ycell, yit, yres, ybn, ybcell, ylist, ycur, ynext, yholds) := zr_in h0 h1 h2 h3
  obtain ⟨ord, lev, lab, sz, pr, T, U, X, Y, M1, M2⟩ := h1
  have hb := T.2.1
  unfold wpX_nodeField
  by_cases lv : zr_lv n ord v1
  · obtain ⟨i, hi, rfl⟩ := lv
    have oi := T.2.2.2.1 i hi
    have ci : (nI (ord i)).toNatClampNeg = ord i := nI_clamp (by omega)
    have vi : vp_in (nI (ord i)) 32 := vp_in_nI (by omega) (by omega)
    refine zx_live1 T U hi (br_f (by decide) ?_)
    have none : (∀ j, j < 5 → ¬ v2 = nI j) → wpY_nodeField (fun r' => r' = -1 ∧ i_Rel k (nI L, nI D, nI IL, nI B, nI n, xu, xbl, nI m, nI o, nI hh, nI q, nI po, xrm, nI (zb_ls xrm).length, xord, xrk, xpar, xlab, xlev, xsz, xlm, xvm, xbn, xbb, xbv, xbs, xlin, xgl, xgv, xgs, xgst, xpc, xpn, xpm, xoa, xsat) (nI L, nI D, nI IL, nI B, nI n, nI m, nI o, nI q, nI (zb_ls xrm).length, ybc, ylc, yord, ypar, ylab, ycell, yit, yres, ybn, ybcell, ylist, ycur, ynext, yholds)) (nI L, nI D, nI IL, nI B, nI n, nI m, nI o, nI q, nI (zb_ls xrm).length, ybc, ylc, yord, ypar, ylab, ycell, yit, yres, ybn, ybcell, ylist, ycur, ynext, yholds) (nI (ord i)) v2 := by
      intro ne
      unfold wpY_nodeField
      exact zy_rank1 T Y.1 hi (br_t (nI_pos' (by omega)) (br_f (ne 0 (by omega)) (br_f (ne 1 (by omega)) (br_f (ne 2 (by omega)) (br_f (ne 3 (by omega)) (br_f (ne 4 (by omega)) ⟨rfl, R⟩))))))
    by_cases c1 : v2 < 0
    · exact br_t c1 (none fun j hj e => by rw [e] at c1; exact nI_pos (by omega) c1)
    · obtain ⟨j, hj, rfl⟩ := nI_of c1
      refine br_f c1 (pk_lt 4 j (fun z => none fun a ha e => ?_) (fun z => ?_))
      · have := (nI_eq (by omega) (by omega)).mp e
        omega
      · have e : j = 0 ∨ j = 1 ∨ j = 2 ∨ j = 3 ∨ j = 4 := by omega
        rcases e with rfl | rfl | rfl | rfl | rfl
        · refine br_t (by decide) ⟨vi, ?_⟩
          unfold wpY_nodeField
          refine zy_rank1 T Y.1 hi (br_t (nI_pos' (by omega)) (br_t (by decide) (zy_rank1 T Y.1 hi ⟨?_, R⟩)))
          rw [ci, (X.1 i hi).2]
        · refine br_f (by decide) (br_t (by decide) ⟨vi, ?_⟩)
          unfold wpY_nodeField
          refine zy_rank1 T Y.1 hi (br_t (nI_pos' (by omega)) (br_f (by decide) (br_t (by decide) (zy_size T Y.1 Y.2.1 hi ⟨?_, R⟩))))
          rw [ci, X.2.2.2.2.1 i hi]
        · refine br_f (by decide) (br_f (by decide) (br_t (by decide) ⟨vi, ?_⟩))
          unfold wpY_nodeField
          refine zy_rank1 T Y.1 hi (br_t (nI_pos' (by omega)) (br_f (by decide) (br_f (by decide) (br_t (by decide) (zy_level T Y.2.1 hi ⟨?_, R⟩)))))
          rw [ci, X.2.2.2.1 i hi]
        · refine br_f (by decide) (br_f (by decide) (br_f (by decide) (br_t (by decide) ⟨vi, ?_⟩)))
          unfold wpY_nodeField
          refine zy_rank1 T Y.1 hi (br_t (nI_pos' (by omega)) (br_f (by decide) (br_f (by decide) (br_f (by decide) (br_t (by decide) ⟨vi, ?_, R⟩)))))
          rw [ci, X.2.1 i hi, Y.2.1 i hi]
        · refine br_f (by decide) (br_f (by decide) (br_f (by decide) (br_f (by decide) (br_t (by decide) ⟨vi, ?_⟩))))
          unfold wpY_nodeField
          refine zy_rank1 T Y.1 hi (br_t (nI_pos' (by omega)) (br_f (by decide) (br_f (by decide) (br_f (by decide) (br_f (by decide) (br_t (by decide) ⟨vi, ?_, R⟩))))))
          rw [ci, X.2.2.1 i hi, Y.2.2 i hi]
  · exact zx_live0 T U lv (br_t rfl (by unfold wpY_nodeField; exact zy_rank0 T Y.1 lv (br_f (by decide) ⟨rfl, R⟩)))
/-- the nodes with a label, as a list -/
theorem zr_lbl {ord lev lab sz pr : Nat → Nat} (T : zr_T L D B n ord lev lab sz pr) (M : zr_M (· < n) lab 6 xlm) {j : Nat} (hj : j < 6) : zp_kp (fun i => decide (nI (lab i) = nI j)) (fun i => i) n = zb_ls (xlm j) := by
  have hb := T.2.1
  have e : zb_mk (fun i => decide (nI (lab i) = nI j)) n = xlm j := by
    apply zb_eq
    intro b hb32
    rw [zb_mkb _ (by omega) hb32, M j hj b hb32, decide_eq_true_eq]
    constructor
    · rintro ⟨h1, h2⟩
      have := T.2.2.2.1 b h1
      exact ⟨h1, (nI_eq (by omega) (by omega)).mp h2⟩
    · rintro ⟨h1, h2⟩; exact ⟨h1, by rw [h2]⟩
  have := zp_kpm (fun i => decide (nI (lab i) = nI j)) false (n := n) (by omega)
  rw [e] at this
  exact this
theorem zv_labelCount (h0 : zr_bd L D IL B) (h1 : zr_tree L D B n xu xrm xord xrk xpar xlab xlev xsz xlm xvm yord ypar ylab yres) (h2 : zr_frag L D B m o hh xgl xgv xgs xgst ycell) (h3 : zr_pth IL B q po xpc xpn xpm xoa yit) (v1 : Int32) :
    wpX_labelCount (fun r => wpY_labelCount (fun r' => r' = r ∧ i_Rel k (nI L, nI D, nI IL, nI B, nI n, xu, xbl, nI m, nI o, nI hh, nI q, nI po, xrm, nI (zb_ls xrm).length, xord, xrk, xpar, xlab, xlev, xsz, xlm, xvm, xbn, xbb, xbv, xbs, xlin, xgl, xgv, xgs, xgst, xpc, xpn, xpm, xoa, xsat) (nI L, nI D, nI IL, nI B, nI n, nI m, nI o, nI q, nI (zb_ls xrm).length, ybc, ylc, yord, ypar, ylab, ycell, yit, yres, ybn, ybcell, ylist, ycur, ynext, yholds)) (nI L, nI D, nI IL, nI B, nI n, nI m, nI o, nI q, nI (zb_ls xrm).length, ybc, ylc, yord, ypar, ylab, ycell, yit, yres, ybn, ybcell, ylist, ycur, ynext, yholds) v1) (nI L, nI D, nI IL, nI B, nI n, xu, xbl, nI m, nI o, nI hh, nI q, nI po, xrm, nI (zb_ls xrm).length, xord, xrk, xpar, xlab, xlev, xsz, xlm, xvm, xbn, xbb, xbv, xbs, xlin, xgl, xgv, xgs, xgst, xpc, xpn, xpm, xoa, xsat) v1 := by
  have R : i_Rel k (nI L, nI D, nI IL, nI B, nI n, xu, xbl, nI m, nI o, nI hh, nI q, nI po, xrm, nI (zb_ls xrm).length, xord, xrk, xpar, xlab, xlev, xsz, xlm, xvm, xbn, xbb, xbv, xbs, xlin, xgl, xgv, xgs, xgst, xpc, xpn, xpm, xoa, xsat) (nI L, nI D, nI IL, nI B, nI n, nI m, nI o, nI q, nI (zb_ls xrm).length, ybc, ylc, yord, ypar, ylab, ycell, yit, yres, ybn, ybcell, ylist, ycur, ynext, yholds) := zr_in h0 h1 h2 h3
  obtain ⟨ord, lev, lab, sz, pr, T, U, X, Y, M1, M2⟩ := h1
  have hb := T.2.1
  have yy : ∀ post : Int32 → Prop, (((v1 < 0 → (post (-1))) ∧ (¬ v1 < 0 → (((v1 < nI B → (post (nI (zp_kp (fun i => decide (nI (lab i) = v1)) (fun i => i) n).length))) ∧ (¬ v1 < nI B → (post (-1)))))))) → wpY_labelCount post (nI L, nI D, nI IL, nI B, nI n, nI m, nI o, nI q, nI (zb_ls xrm).length, ybc, ylc, yord, ypar, ylab, ycell, yit, yres, ybn, ybcell, ylist, ycur, ynext, yholds) v1 := by
    intro post hp
    have key : ∀ d i, i + d = n → wY_labelCount_4 post v1 (nI L) (nI D) (nI IL) (nI B) (nI n) (nI m) (nI o) (nI q) (nI (zb_ls xrm).length) ybc ylc yord ypar ylab ycell yit yres ybn ybcell ylist ycur ynext yholds (d + 1) (nI (zp_kp (fun i => decide (nI (lab i) = v1)) (fun i => i) i).length) (nI i) := by
      intro d
      induction d with
      | zero =>
        intro i hi
        have e : i = n := by omega
        subst e
        exact br_t (nI_le (Nat.le_refl _) (by omega)) hp
      | succ d ih =>
        intro i hi
        have oi := T.2.2.2.1 i (by omega)
        have ihk := ih (i + 1) (by omega)
        rw [show ∀ (kp : Nat → Bool) (g : Nat → Nat), zp_kp kp g (i + 1) = if kp i = true then zp_kp kp g i ++ [g i] else zp_kp kp g i from fun _ _ => rfl] at ihk
        have ci : (nI i).toNatClampNeg = i := nI_clamp (by omega)
        refine br_f (nI_ge (by omega) (by omega)) ⟨vp_in_nI (by omega) (by omega), ?_⟩
        rw [ci, Y.1 i (by omega), nI_clamp (by omega), Y.2.2 i (by show i < n; omega)]
        refine ⟨vp_in_nI (by omega) (by omega), br_c (fun z => ?_) (fun z => ?_)⟩
        · rw [if_pos (decide_eq_true z), List.length_append] at ihk
          exact nm_r (nI_1 _) (nm_r (nI_1 i) ihk)
        · rw [if_neg (by rw [decide_eq_true_eq]; exact z)] at ihk
          exact nm_r (nI_1 i) ihk
    unfold wpY_labelCount
    exact ⟨n + 1, key n 0 (by omega)⟩
  unfold wpX_labelCount
  by_cases c : v1 < 0
  · exact br_t c (yy _ (br_t c ⟨rfl, R⟩))
  · obtain ⟨j, hj, rfl⟩ := nI_of c
    refine br_f c (pk_lt j B (fun z => ⟨vp_in_nI (by omega) (by omega), zx_bitCount (yy _ (br_f c (br_t (nI_lt z (by omega)) ⟨?_, R⟩)))⟩) (fun z => yy _ (br_f c (br_f (nI_nlt z hj) ⟨rfl, R⟩))))
    rw [nI_clamp hj, zr_lbl T X.2.2.2.2.2.1 (by omega)]
theorem zv_labelNode (h0 : zr_bd L D IL B) (h1 : zr_tree L D B n xu xrm xord xrk xpar xlab xlev xsz xlm xvm yord ypar ylab yres) (h2 : zr_frag L D B m o hh xgl xgv xgs xgst ycell) (h3 : zr_pth IL B q po xpc xpn xpm xoa yit) (v1 v2 : Int32) :
    wpX_labelNode (fun r => wpY_labelNode (fun r' => r' = r ∧ i_Rel k (nI L, nI D, nI IL, nI B, nI n, xu, xbl, nI m, nI o, nI hh, nI q, nI po, xrm, nI (zb_ls xrm).length, xord, xrk, xpar, xlab, xlev, xsz, xlm, xvm, xbn, xbb, xbv, xbs, xlin, xgl, xgv, xgs, xgst, xpc, xpn, xpm, xoa, xsat) (nI L, nI D, nI IL, nI B, nI n, nI m, nI o, nI q, nI (zb_ls xrm).length, ybc, ylc, yord, ypar, ylab, ycell, yit, yres, ybn, ybcell, ylist, ycur, ynext, yholds)) (nI L, nI D, nI IL, nI B, nI n, nI m, nI o, nI q, nI (zb_ls xrm).length, ybc, ylc, yord, ypar, ylab, ycell, yit, yres, ybn, ybcell, ylist, ycur, ynext, yholds) v1 v2) (nI L, nI D, nI IL, nI B, nI n, xu, xbl, nI m, nI o, nI hh, nI q, nI po, xrm, nI (zb_ls xrm).length, xord, xrk, xpar, xlab, xlev, xsz, xlm, xvm, xbn, xbb, xbv, xbs, xlin, xgl, xgv, xgs, xgst, xpc, xpn, xpm, xoa, xsat) v1 v2 := by
  have R : i_Rel k (nI L, nI D, nI IL, nI B, nI n, xu, xbl, nI m, nI o, nI hh, nI q, nI po, xrm, nI (zb_ls xrm).length, xord, xrk, xpar, xlab, xlev, xsz, xlm, xvm, xbn, xbb, xbv, xbs, xlin, xgl, xgv, xgs, xgst, xpc, xpn, xpm, xoa, xsat) (nI L, nI D, nI IL, nI B, nI n, nI m, nI o, nI q, nI (zb_ls xrm).length, ybc, ylc, yord, ypar, ylab, ycell, yit, yres, ybn, ybcell, ylist, ycur, ynext, yholds) := zr_in h0 h1 h2 h3
  obtain ⟨ord, lev, lab, sz, pr, T, U, X, Y, M1, M2⟩ := h1
  have hb := T.2.1
  have yy : ∀ post : Int32 → Prop, (∀ t, (ht : t < (zp_kp (fun i => decide (nI (lab i) = v1)) (fun i => i) n).length) → v2 = nI t → post (nI (ord (zp_kp (fun i => decide (nI (lab i) = v1)) (fun i => i) n)[t]))) → ((∀ t, t < (zp_kp (fun i => decide (nI (lab i) = v1)) (fun i => i) n).length → v2 ≠ nI t) → post (-1)) → wpY_labelNode post (nI L, nI D, nI IL, nI B, nI n, nI m, nI o, nI q, nI (zb_ls xrm).length, ybc, ylc, yord, ypar, ylab, ycell, yit, yres, ybn, ybcell, ylist, ycur, ynext, yholds) v1 v2 := by
    intro post hp1 hp0
    have key : ∀ d i, i + d = n → (∀ t, t < (zp_kp (fun i => decide (nI (lab i) = v1)) (fun i => i) i).length → v2 ≠ nI t) → wY_labelNode_5 post v1 v2 (nI L) (nI D) (nI IL) (nI B) (nI n) (nI m) (nI o) (nI q) (nI (zb_ls xrm).length) ybc ylc yord ypar ylab ycell yit yres ybn ybcell ylist ycur ynext yholds (d + 1) (nI (zp_kp (fun i => decide (nI (lab i) = v1)) (fun i => i) i).length) (nI i) := by
      intro d
      induction d with
      | zero =>
        intro i hi hno
        have e : i = n := by omega
        subst e
        exact br_t (nI_le (Nat.le_refl _) (by omega)) (hp0 hno)
      | succ d ih =>
        intro i hi hno
        have oi := T.2.2.2.1 i (by omega)
        have ihk := ih (i + 1) (by omega)
        obtain ⟨r, er⟩ := zp_kpre (fun i => decide (nI (lab i) = v1)) (fun i => i) (i + 1) d
        rw [show i + 1 + d = n by omega] at er
        have kl := zp_kpl (fun i => decide (nI (lab i) = v1)) (fun i => i) i
        rw [show ∀ (kp : Nat → Bool) (g : Nat → Nat), zp_kp kp g (i + 1) = if kp i = true then zp_kp kp g i ++ [g i] else zp_kp kp g i from fun _ _ => rfl] at ihk er
        have ci : (nI i).toNatClampNeg = i := nI_clamp (by omega)
        refine br_f (nI_ge (by omega) (by omega)) ⟨vp_in_nI (by omega) (by omega), ?_⟩
        rw [ci, Y.1 i (by omega), nI_clamp (by omega), Y.2.2 i (by show i < n; omega)]
        refine ⟨vp_in_nI (by omega) (by omega), br_c (fun z => ?_) (fun z => ?_)⟩
        · rw [if_pos (decide_eq_true z)] at ihk er
          refine nm_r (nI_1 _) (br_c (fun w => ⟨vp_in_nI (by omega) (by omega), ?_⟩) (fun w => nm_r (nI_1 i) ?_))
          · have ht : (zp_kp (fun i => decide (nI (lab i) = v1)) (fun i => i) i).length < (zp_kp (fun i => decide (nI (lab i) = v1)) (fun i => i) n).length := by rw [er]; simp
            have := hp1 _ ht w.symm
            have eg : (zp_kp (fun i => decide (nI (lab i) = v1)) (fun i => i) n)[(zp_kp (fun i => decide (nI (lab i) = v1)) (fun i => i) i).length] = i := by
              simp only [er]
              rw [List.getElem_append_left (by simp), List.getElem_append_right (Nat.le_refl _)]
              simp
            rw [eg] at this
            exact this
          · rw [List.length_append] at ihk
            refine ihk fun t ht => ?_
            have ht : t < (zp_kp (fun i => decide (nI (lab i) = v1)) (fun i => i) i).length + 1 := ht
            by_cases y : t = (zp_kp (fun i => decide (nI (lab i) = v1)) (fun i => i) i).length
            · rw [y]; exact fun e => w e.symm
            · exact hno t (by omega)
        · rw [if_neg (by rw [decide_eq_true_eq]; exact z)] at ihk
          exact nm_r (nI_1 i) (ihk hno)
    unfold wpY_labelNode
    exact ⟨n + 1, key n 0 (by omega) lt_0⟩
  have nol : ¬ (∃ j, j < B ∧ v1 = nI j) → zp_kp (fun i => decide (nI (lab i) = v1)) (fun i => i) n = [] := by
    intro ne
    refine zp_knil fun i hi => decide_eq_false fun e => ne ⟨lab i, (T.2.2.2.1 i hi).2.2, e.symm⟩
  unfold wpX_labelNode
  by_cases c : v1 < 0
  · refine br_t c (yy _ ?_ (fun _ => ⟨rfl, R⟩))
    rw [nol (fun ⟨j, hj, e⟩ => by rw [e] at c; exact nI_pos (by omega) c)]
    exact fun t ht => absurd ht (Nat.not_lt_zero t)
  · obtain ⟨j, hj, rfl⟩ := nI_of c
    refine br_f c (pk_lt j B (fun z => ⟨vp_in_nI (by omega) (by omega), ?_⟩) (fun z => yy _ ?_ (fun _ => ⟨rfl, R⟩)))
    · rw [nI_clamp hj]
      have el := zr_lbl T X.2.2.2.2.2.1 (show j < 6 by omega)
      have hM : ∀ y, bt (xlm j) y = true → y < n := fun y hy => ((X.2.2.2.2.2.1 j (by omega) y (zb_mem.mp (zb_mem'.mpr hy)).1).mp hy).1
      refine zx_nodeInMask (ord := ord) (n := n) (by omega) (fun i hi => (X.1 i hi).1) hM (fun t ht e => yy _ ?_ ?_) (fun hno => yy _ ?_ (fun _ => ⟨rfl, R⟩))
      · intro t' ht' e'
        have : t' = t := by
          rw [el] at ht'
          have l32 := zb_len (xlm j)
          exact ((nI_eq (by omega) (by omega)).mp (e.symm.trans e')).symm
        subst this
        refine ⟨?_, R⟩
        simp only [el]
      · intro hno
        rw [el] at hno
        exact absurd e (hno t ht)
      · intro t ht e
        rw [el] at ht
        exact absurd e (hno t ht)
    · rw [nol (fun ⟨i, hi, e⟩ => by have := (nI_eq (by omega) (by omega)).mp e; omega)]
      exact fun t ht => absurd ht (Nat.not_lt_zero t)
theorem zv_resultAt (h0 : zr_bd L D IL B) (h1 : zr_tree L D B n xu xrm xord xrk xpar xlab xlev xsz xlm xvm yord ypar ylab yres) (h2 : zr_frag L D B m o hh xgl xgv xgs xgst ycell) (h3 : zr_pth IL B q po xpc xpn xpm xoa yit) (v1 : Int32) :
    wpX_resultAt (fun r => wpY_resultAt (fun r' => r' = r ∧ i_Rel k (nI L, nI D, nI IL, nI B, nI n, xu, xbl, nI m, nI o, nI hh, nI q, nI po, xrm, nI (zb_ls xrm).length, xord, xrk, xpar, xlab, xlev, xsz, xlm, xvm, xbn, xbb, xbv, xbs, xlin, xgl, xgv, xgs, xgst, xpc, xpn, xpm, xoa, xsat) (nI L, nI D, nI IL, nI B, nI n, nI m, nI o, nI q, nI (zb_ls xrm).length, ybc, ylc, yord, ypar, ylab, ycell, yit, yres, ybn, ybcell, ylist, ycur, ynext, yholds)) (nI L, nI D, nI IL, nI B, nI n, nI m, nI o, nI q, nI (zb_ls xrm).length, ybc, ylc, yord, ypar, ylab, ycell, yit, yres, ybn, ybcell, ylist, ycur, ynext, yholds) v1) (nI L, nI D, nI IL, nI B, nI n, xu, xbl, nI m, nI o, nI hh, nI q, nI po, xrm, nI (zb_ls xrm).length, xord, xrk, xpar, xlab, xlev, xsz, xlm, xvm, xbn, xbb, xbv, xbs, xlin, xgl, xgv, xgs, xgst, xpc, xpn, xpm, xoa, xsat) v1 := by
  have R : i_Rel k (nI L, nI D, nI IL, nI B, nI n, xu, xbl, nI m, nI o, nI hh, nI q, nI po, xrm, nI (zb_ls xrm).length, xord, xrk, xpar, xlab, xlev, xsz, xlm, xvm, xbn, xbb, xbv, xbs, xlin, xgl, xgv, xgs, xgst, xpc, xpn, xpm, xoa, xsat) (nI L, nI D, nI IL, nI B, nI n, nI m, nI o, nI q, nI (zb_ls xrm).length, ybc, ylc, yord, ypar, ylab, ycell, yit, yres, ybn, ybcell, ylist, ycur, ynext, yholds) := zr_in h0 h1 h2 h3
  obtain ⟨ord, lev, lab, sz, pr, T, U, X, Y, M1, M2⟩ := h1
  have hb := T.2.1
  have l32 := zb_len xrm
  unfold wpX_resultAt
  refine zx_nodeInMask (ord := ord) (n := n) (by omega) (fun i hi => (X.1 i hi).1) M1 (fun t ht e => ?_) (fun hno => ?_)
  · subst e
    unfold wpY_resultAt
    refine br_f (nI_pos (by omega)) (br_t (nI_lt ht (by omega)) ⟨vp_in_nI (by omega) (by omega), ?_, R⟩)
    rw [nI_clamp (by omega)]; exact M2 t ht
  · unfold wpY_resultAt
    by_cases c : v1 < 0
    · exact br_t c ⟨rfl, R⟩
    · obtain ⟨j, hj, rfl⟩ := nI_of c
      exact br_f c (pk_lt j (zb_ls xrm).length (fun z => absurd rfl (hno j z)) (fun z => ⟨rfl, R⟩))
theorem zv_fragmentCell (h0 : zr_bd L D IL B) (h1 : zr_tree L D B n xu xrm xord xrk xpar xlab xlev xsz xlm xvm yord ypar ylab yres) (h2 : zr_frag L D B m o hh xgl xgv xgs xgst ycell) (h3 : zr_pth IL B q po xpc xpn xpm xoa yit) (v1 : Int32) :
    wpX_fragmentCell (fun r => wpY_fragmentCell (fun r' => r' = r ∧ i_Rel k (nI L, nI D, nI IL, nI B, nI n, xu, xbl, nI m, nI o, nI hh, nI q, nI po, xrm, nI (zb_ls xrm).length, xord, xrk, xpar, xlab, xlev, xsz, xlm, xvm, xbn, xbb, xbv, xbs, xlin, xgl, xgv, xgs, xgst, xpc, xpn, xpm, xoa, xsat) (nI L, nI D, nI IL, nI B, nI n, nI m, nI o, nI q, nI (zb_ls xrm).length, ybc, ylc, yord, ypar, ylab, ycell, yit, yres, ybn, ybcell, ylist, ycur, ynext, yholds)) (nI L, nI D, nI IL, nI B, nI n, nI m, nI o, nI q, nI (zb_ls xrm).length, ybc, ylc, yord, ypar, ylab, ycell, yit, yres, ybn, ybcell, ylist, ycur, ynext, yholds) v1) (nI L, nI D, nI IL, nI B, nI n, xu, xbl, nI m, nI o, nI hh, nI q, nI po, xrm, nI (zb_ls xrm).length, xord, xrk, xpar, xlab, xlev, xsz, xlm, xvm, xbn, xbb, xbv, xbs, xlin, xgl, xgv, xgs, xgst, xpc, xpn, xpm, xoa, xsat) v1 := by
  have R : i_Rel k (nI L, nI D, nI IL, nI B, nI n, xu, xbl, nI m, nI o, nI hh, nI q, nI po, xrm, nI (zb_ls xrm).length, xord, xrk, xpar, xlab, xlev, xsz, xlm, xvm, xbn, xbb, xbv, xbs, xlin, xgl, xgv, xgs, xgst, xpc, xpn, xpm, xoa, xsat) (nI L, nI D, nI IL, nI B, nI n, nI m, nI o, nI q, nI (zb_ls xrm).length, ybc, ylc, yord, ypar, ylab, ycell, yit, yres, ybn, ybcell, ylist, ycur, ynext, yholds) := zr_in h0 h1 h2 h3
  have hb := h0
  unfold zr_bd at hb
  obtain ⟨fl, fv, fs, st, fp, f1, f2, f⟩ := h2
  unfold wpX_fragmentCell wpY_fragmentCell
  by_cases c : v1 < 0
  · exact br_t c (br_t c ⟨rfl, R⟩)
  · obtain ⟨j, hj, rfl⟩ := nI_of c
    refine br_f c (pk_lt j m (fun z => ⟨vp_in_nI (by omega) (by omega), vp_in_nI (by omega) (by omega), br_f c (br_t (nI_lt z (by omega)) ⟨vp_in_nI (by omega) (by omega), ?_, R⟩)⟩) (fun z => br_f c (br_f (nI_nlt z hj) ⟨rfl, R⟩)))
    obtain ⟨a1, a2, a3, a4, a5⟩ := f2 j z
    rw [nI_clamp hj, a1, a2, a4, show (8 : Int32) = nI 8 from rfl, pk_mul, nI_add]
theorem zv_pathCell (h0 : zr_bd L D IL B) (h1 : zr_tree L D B n xu xrm xord xrk xpar xlab xlev xsz xlm xvm yord ypar ylab yres) (h2 : zr_frag L D B m o hh xgl xgv xgs xgst ycell) (h3 : zr_pth IL B q po xpc xpn xpm xoa yit) (v1 : Int32) :
    wpX_pathCell (fun r => wpY_pathCell (fun r' => r' = r ∧ i_Rel k (nI L, nI D, nI IL, nI B, nI n, xu, xbl, nI m, nI o, nI hh, nI q, nI po, xrm, nI (zb_ls xrm).length, xord, xrk, xpar, xlab, xlev, xsz, xlm, xvm, xbn, xbb, xbv, xbs, xlin, xgl, xgv, xgs, xgst, xpc, xpn, xpm, xoa, xsat) (nI L, nI D, nI IL, nI B, nI n, nI m, nI o, nI q, nI (zb_ls xrm).length, ybc, ylc, yord, ypar, ylab, ycell, yit, yres, ybn, ybcell, ylist, ycur, ynext, yholds)) (nI L, nI D, nI IL, nI B, nI n, nI m, nI o, nI q, nI (zb_ls xrm).length, ybc, ylc, yord, ypar, ylab, ycell, yit, yres, ybn, ybcell, ylist, ycur, ynext, yholds) v1) (nI L, nI D, nI IL, nI B, nI n, xu, xbl, nI m, nI o, nI hh, nI q, nI po, xrm, nI (zb_ls xrm).length, xord, xrk, xpar, xlab, xlev, xsz, xlm, xvm, xbn, xbb, xbv, xbs, xlin, xgl, xgv, xgs, xgst, xpc, xpn, xpm, xoa, xsat) v1 := by
  have R : i_Rel k (nI L, nI D, nI IL, nI B, nI n, xu, xbl, nI m, nI o, nI hh, nI q, nI po, xrm, nI (zb_ls xrm).length, xord, xrk, xpar, xlab, xlev, xsz, xlm, xvm, xbn, xbb, xbv, xbs, xlin, xgl, xgv, xgs, xgst, xpc, xpn, xpm, xoa, xsat) (nI L, nI D, nI IL, nI B, nI n, nI m, nI o, nI q, nI (zb_ls xrm).length, ybc, ylc, yord, ypar, ylab, ycell, yit, yres, ybn, ybcell, ylist, ycur, ynext, yholds) := zr_in h0 h1 h2 h3
  have hb := h0
  unfold zr_bd at hb
  obtain ⟨code, nest, mate, nd, oa, P, Q, Y, E, A, C⟩ := h3
  unfold wpX_pathCell wpY_pathCell
  by_cases c : v1 < 0
  · exact br_t c (br_t c ⟨rfl, R⟩)
  · obtain ⟨j, hj, rfl⟩ := nI_of c
    refine br_f c (pk_lt j q (fun z => ⟨vp_in_nI (by omega) (by omega), br_f c (br_t (nI_lt z (by omega)) ⟨vp_in_nI (by omega) (by omega), ?_, R⟩)⟩) (fun z => br_f c (br_f (nI_nlt z hj) ⟨rfl, R⟩)))
    rw [nI_clamp hj, Y j z, (Q j z).1]
theorem zv_relabel (h0 : zr_bd L D IL B) (h1 : zr_tree L D B n xu xrm xord xrk xpar xlab xlev xsz xlm xvm yord ypar ylab yres) (h2 : zr_frag L D B m o hh xgl xgv xgs xgst ycell) (h3 : zr_pth IL B q po xpc xpn xpm xoa yit) (v1 v2 : Int32) :
    wpX_relabel (fun r u' => wpY_relabel (fun r' v' => r' = r ∧ i_Rel k u' v') (nI L, nI D, nI IL, nI B, nI n, nI m, nI o, nI q, nI (zb_ls xrm).length, ybc, ylc, yord, ypar, ylab, ycell, yit, yres, ybn, ybcell, ylist, ycur, ynext, yholds) v1 v2) (nI L, nI D, nI IL, nI B, nI n, xu, xbl, nI m, nI o, nI hh, nI q, nI po, xrm, nI (zb_ls xrm).length, xord, xrk, xpar, xlab, xlev, xsz, xlm, xvm, xbn, xbb, xbv, xbs, xlin, xgl, xgv, xgs, xgst, xpc, xpn, xpm, xoa, xsat) v1 v2 := by
  have R : i_Rel k (nI L, nI D, nI IL, nI B, nI n, xu, xbl, nI m, nI o, nI hh, nI q, nI po, xrm, nI (zb_ls xrm).length, xord, xrk, xpar, xlab, xlev, xsz, xlm, xvm, xbn, xbb, xbv, xbs, xlin, xgl, xgv, xgs, xgst, xpc, xpn, xpm, xoa, xsat) (nI L, nI D, nI IL, nI B, nI n, nI m, nI o, nI q, nI (zb_ls xrm).length, ybc, ylc, yord, ypar, ylab, ycell, yit, yres, ybn, ybcell, ylist, ycur, ynext, yholds) := zr_in h0 h1 h2 h3
  have hb0 := h0
  unfold zr_bd at hb0
  obtain ⟨ord, lev, lab, sz, pr, T, U, X, Y, M1, M2⟩ := h1
  have hb := T.2.1
  unfold wpX_relabel
  by_cases lv : zr_lv n ord v1
  · obtain ⟨i, hi, rfl⟩ := lv
    have oi := T.2.2.2.1 i hi
    have ci : (nI (ord i)).toNatClampNeg = ord i := nI_clamp (by omega)
    have vi : vp_in (nI (ord i)) 32 := vp_in_nI (by omega) (by omega)
    refine zx_live1 T U hi (br_f (by decide) ?_)
    have yl : ∀ post : Int32 → SY → Prop, (((v2 < 0 → (post (-3) (nI L, nI D, nI IL, nI B, nI n, nI m, nI o, nI q, nI (zb_ls xrm).length, ybc, ylc, yord, ypar, ylab, ycell, yit, yres, ybn, ybcell, ylist, ycur, ynext, yholds))) ∧ (¬ v2 < 0 → (((v2 < nI B → (post (nI (lab i)) (nI L, nI D, nI IL, nI B, nI n, nI m, nI o, nI q, 0, ybc, ylc, yord, ypar, upd ylab (ord i) v2, ycell, yit, yres, ybn, ybcell, ylist, ycur, ynext, yholds))) ∧ (¬ v2 < nI B → (post (-3) (nI L, nI D, nI IL, nI B, nI n, nI m, nI o, nI q, nI (zb_ls xrm).length, ybc, ylc, yord, ypar, ylab, ycell, yit, yres, ybn, ybcell, ylist, ycur, ynext, yholds)))))))) → wpY_relabel post (nI L, nI D, nI IL, nI B, nI n, nI m, nI o, nI q, nI (zb_ls xrm).length, ybc, ylc, yord, ypar, ylab, ycell, yit, yres, ybn, ybcell, ylist, ycur, ynext, yholds) (nI (ord i)) v2 := by
      intro post hp
      unfold wpY_relabel
      refine zy_rank1 T Y.1 hi (br_t (nI_pos' (by omega)) ⟨hp.1, fun z => ⟨fun w => ⟨vi, nm_r (e' := nI (lab i)) (by rw [ci]; exact Y.2.2 i hi) ⟨vi, nm_r (e' := upd ylab (ord i) v2) (by rw [ci]) ((hp.2 z).1 w)⟩⟩, (hp.2 z).2⟩⟩)
    by_cases c1 : v2 < 0
    · exact br_t c1 (yl _ (br_t c1 ⟨rfl, R⟩))
    · obtain ⟨j, hj, rfl⟩ := nI_of c1
      refine br_f c1 (pk_lt j B (fun z => ?_) (fun z => yl _ (br_f c1 (br_f (nI_nlt z hj) ⟨rfl, R⟩))))
      have cj : (nI j).toNatClampNeg = j := nI_clamp hj
      have cl : (nI (lab i)).toNatClampNeg = lab i := nI_clamp (by omega)
      have vl : vp_in (nI (lab i)) 6 := vp_in_nI (by omega) (by omega)
      have vj : vp_in (nI j) 6 := vp_in_nI (by omega) (by omega)
      refine ⟨vi, nm_r (e' := nI (lab i)) (by rw [ci]; exact X.2.2.1 i hi) ⟨vi, nm_r (e' := zb_1 i) (by rw [ci, (X.1 i hi).2]; rfl) ⟨vl, vl, nm_r (e' := upd xlm (lab i) (xlm (lab i) &&& (zb_1 i ^^^ (-1)))) (by rw [cl]) ⟨vj, vj, nm_r (e' := upd (upd xlm (lab i) (xlm (lab i) &&& (zb_1 i ^^^ (-1)))) j (upd xlm (lab i) (xlm (lab i) &&& (zb_1 i ^^^ (-1))) j ||| zb_1 i)) (by rw [cj]) ⟨vi, nm_r (e' := upd xlab (ord i) (nI j)) (by rw [ci]) ?_⟩⟩⟩⟩⟩
      unfold wpX_clearResult
      refine yl _ (br_f c1 (br_t (nI_lt z (by omega)) ⟨rfl, zr_in0 h0 ?_ h2 h3⟩))
      have inj : ∀ a, a < n → ord a = ord i → a = i := fun a ha e => T.2.2.2.2 a i ha hi e
      have lu : ∀ a, a ≠ i → zt_up lab i j a = lab a := fun a h => zt_un h
      refine ⟨ord, lev, zt_up lab i j, sz, pr, ⟨T.1, T.2.1, T.2.2.1, fun a ha => ?_, T.2.2.2.2⟩, U, ⟨X.1, X.2.1, ?_, X.2.2.2.1, X.2.2.2.2.1, ?_, X.2.2.2.2.2.2⟩, ⟨Y.1, Y.2.1, ?_⟩, ?_, ?_⟩
      · have := T.2.2.2.1 a ha
        by_cases w : a = i
        · rw [w, zt_us, ← w]; exact ⟨this.1, this.2.1, z⟩
        · rw [lu a w]; exact this
      · intro a ha
        by_cases w : a = i
        · rw [w, pk_us, zt_us]
        · rw [pk_un (fun e => w (inj a ha e)), lu a w]; exact X.2.2.1 a ha
      · intro l hl b hb32
        have XM := X.2.2.2.2.2.1
        by_cases w : l = j
        · subst w
          rw [pk_us, b_or, Bool.or_eq_true, zb_1b (by omega) hb32, decide_eq_true_eq]
          by_cases y : b = i
          · subst y; rw [zt_us]; exact ⟨fun _ => ⟨hi, rfl⟩, fun _ => Or.inr rfl⟩
          · rw [lu b y]
            have e2 : bt (upd xlm (lab i) (xlm (lab i) &&& (zb_1 i ^^^ (-1))) l) b = bt (xlm l) b := by
              by_cases x : l = lab i
              · rw [x, pk_us, b_and, zb_not _ hb32, zb_1b (by omega) hb32, decide_eq_false y, Bool.not_false, Bool.and_true]
              · rw [pk_un x]
            rw [e2, XM l hl b hb32]
            exact ⟨fun q => q.resolve_right y, Or.inl⟩
        · rw [pk_un w]
          by_cases x : l = lab i
          · subst x
            rw [pk_us, b_and, zb_not _ hb32, zb_1b (by omega) hb32, Bool.and_eq_true, XM _ hl b hb32, Bool.not_eq_true', decide_eq_false_iff_not]
            by_cases y : b = i
            · subst y; rw [zt_us]; exact ⟨fun q => absurd rfl q.2, fun q => absurd q.2.symm w⟩
            · rw [lu b y]; exact ⟨fun q => q.1, fun q => ⟨q, y⟩⟩
          · rw [pk_un x, XM l hl b hb32]
            by_cases y : b = i
            · subst y; rw [zt_us]; exact ⟨fun q => absurd q.2.symm x, fun q => absurd q.2.symm w⟩
            · rw [lu b y]
      · intro a ha
        by_cases w : a = i
        · rw [w, pk_us, zt_us]
        · rw [pk_un (fun e => w (inj a ha e)), lu a w]; exact Y.2.2 a ha
      · intro y hy; rw [b_0] at hy; exact absurd hy (by decide)
      · intro t ht; rw [zb_ls0] at ht; exact absurd ht (Nat.not_lt_zero t)
  · exact zx_live0 T U lv (br_t rfl (by unfold wpY_relabel; exact zy_rank0 T Y.1 lv (br_f (by decide) ⟨rfl, R⟩)))
end
end
section
/-! ===== the edits: the tree behind them ===== -/
theorem zr_Tins {L D B n m a p : Nat} {ord lev lab sz pr bno blab bv bs bp : Nat → Nat} (T : zr_T L D B n ord lev lab sz pr) (Pl : zt_pl n lev sz p a) (K : zt_bk m bv bs bp) (hnm : n + m ≤ L)
    (b1 : ∀ i, i < m → bno i < L) (b2 : ∀ i, i < m → ∀ j, j < n → ord j ≠ bno i) (b3 : ∀ i j, i < m → j < m → bno i = bno j → i = j) (b4 : ∀ i, i < m → lev p + 1 + bv i ≤ D) (b5 : ∀ i, i < m → blab i < B) :
    zr_T L D B (n + m) (zt_in a m ord bno) (zt_in a m lev (fun i => lev p + 1 + bv i)) (zt_in a m lab blab) (zt_in a m (zt_isz p m sz) bs) (zt_ipr a m p pr bv bp) := by
  have hb := T.2.1
  have hpa := Pl.2.1
  have han : a ≤ n := by have := (T.1.2.2.2 p Pl.1).1; have := Pl.2.2.1; omega
  refine ⟨zt_ins T.1 Pl K, by omega, (zt_in1 (by omega)).trans T.2.2.1, ?_, ?_⟩
  · refine zt_c3 a (fun i hi => ?_) (fun i hi => ?_) (fun i hi hin => ?_)
    · rw [zt_in1 hi, zt_in1 hi, zt_in1 hi]; exact T.2.2.2.1 i (by omega)
    · rw [zt_in2 hi, zt_in2 hi, zt_in2 hi]; exact ⟨b1 i hi, b4 i hi, b5 i hi⟩
    · rw [zt_in3 hi, zt_in3 hi, zt_in3 hi]; exact T.2.2.2.1 i hin
  · have key : ∀ i, i < n + m → ∀ j, j < n + m → zt_in a m ord bno i = zt_in a m ord bno j → i = j := by
      refine zt_c3 a (fun i hi => ?_) (fun i hi => ?_) (fun i hi hin => ?_)
      · rw [zt_in1 hi]
        refine zt_c3 a (fun j hj => ?_) (fun j hj => ?_) (fun j hj hjn => ?_)
        · rw [zt_in1 hj]; exact T.2.2.2.2 i j (by omega) (by omega)
        · rw [zt_in2 hj]; exact fun e => absurd e (b2 j hj i (by omega))
        · rw [zt_in3 hj]; intro e; have := T.2.2.2.2 i j (by omega) hjn e; omega
      · rw [zt_in2 hi]
        refine zt_c3 a (fun j hj => ?_) (fun j hj => ?_) (fun j hj hjn => ?_)
        · rw [zt_in1 hj]; exact fun e => absurd e.symm (b2 i hi j (by omega))
        · rw [zt_in2 hj]; intro e; rw [b3 i j hi hj e]
        · rw [zt_in3 hj]; exact fun e => absurd e.symm (b2 i hi j hjn)
      · rw [zt_in3 hi]
        refine zt_c3 a (fun j hj => ?_) (fun j hj => ?_) (fun j hj hjn => ?_)
        · rw [zt_in1 hj]; intro e; have := T.2.2.2.2 i j hin (by omega) e; omega
        · rw [zt_in2 hj]; exact fun e => absurd e (b2 j hj i hin)
        · rw [zt_in3 hj]; intro e; rw [T.2.2.2.2 i j hin hjn e]
    exact fun i j hi hj => key i hi j hj
theorem zr_Tdel {L D B n r : Nat} {ord lev lab sz pr : Nat → Nat} (T : zr_T L D B n ord lev lab sz pr) (h0 : 0 < r) (hr : r < n) :
    zr_T L D B (n - (sz r + 1)) (zt_dl r (sz r + 1) ord) (zt_dl r (sz r + 1) lev) (zt_dl r (sz r + 1) lab) (zt_dl r (sz r + 1) (zt_dsz (pr r) (sz r + 1) sz)) (zt_dpr r (sz r + 1) pr) := by
  have hb := T.2.1
  have S := (T.1.2.2.2 r hr).1
  refine ⟨zt_del T.1 h0 hr, by omega, (zt_dl1 h0).trans T.2.2.1, fun i hi => ?_, fun i j hi hj e => ?_⟩
  · rcases Nat.lt_or_ge i r with z | z
    · rw [zt_dl1 z, zt_dl1 z, zt_dl1 z]; exact T.2.2.2.1 i (by omega)
    · rw [zt_dl2 z, zt_dl2 z, zt_dl2 z]; exact T.2.2.2.1 _ (by omega)
  · rcases Nat.lt_or_ge i r with z | z
    · rw [zt_dl1 z] at e
      rcases Nat.lt_or_ge j r with y | y
      · rw [zt_dl1 y] at e; exact T.2.2.2.2 i j (by omega) (by omega) e
      · rw [zt_dl2 y] at e; have := T.2.2.2.2 _ _ (show i < n by omega) (show j + (sz r + 1) < n by omega) e; omega
    · rw [zt_dl2 z] at e
      rcases Nat.lt_or_ge j r with y | y
      · rw [zt_dl1 y] at e; have := T.2.2.2.2 _ _ (show i + (sz r + 1) < n by omega) (show j < n by omega) e; omega
      · rw [zt_dl2 y] at e; have := T.2.2.2.2 _ _ (show i + (sz r + 1) < n by omega) (show j + (sz r + 1) < n by omega) e; omega
theorem zr_Uin {n m a : Nat} {ord bno : Nat → Nat} {u : Int32} (han : a ≤ n) (h : ∀ x, x < 32 → (bt u x = true ↔ (∃ j, j < n ∧ ord j = x) ∨ ∃ j, j < m ∧ bno j = x)) : zr_U (n + m) (zt_in a m ord bno) u := by
  intro x hx
  rw [h x hx]
  constructor
  · rintro (⟨j, hj, e⟩ | ⟨j, hj, e⟩)
    · rcases Nat.lt_or_ge j a with z | z
      · exact ⟨j, by omega, by rw [zt_in1 z]; exact e⟩
      · exact ⟨j + m, by omega, by rw [zt_in3 z]; exact e⟩
    · exact ⟨a + j, by omega, by rw [zt_in2 hj]; exact e⟩
  · rintro ⟨i, hi, e⟩
    have key : ∀ i, i < n + m → zt_in a m ord bno i = x → (∃ j, j < n ∧ ord j = x) ∨ ∃ j, j < m ∧ bno j = x := by
      refine zt_c3 a (fun i hi => ?_) (fun i hi => ?_) (fun i hi hin => ?_)
      · rw [zt_in1 hi]; exact fun e => Or.inl ⟨i, by omega, e⟩
      · rw [zt_in2 hi]; exact fun e => Or.inr ⟨i, hi, e⟩
      · rw [zt_in3 hi]; exact fun e => Or.inl ⟨i, hin, e⟩
    exact key i hi e
theorem zr_Pin {L D B n m a p : Nat} {ord lev lab sz pr bno bv bs bp : Nat → Nat} {Pa : Nat → Int32} (T : zr_T L D B n ord lev lab sz pr) (Pl : zt_pl n lev sz p a) (K : zt_bk m bv bs bp) (g1 : zr_P (· < n) ord pr Pa) (g2 : ∀ j, j < m → Pa (bno j) = if bv j = 0 then nI (ord p) else nI (bno (bp j))) :
    zr_P (· < n + m) (zt_in a m ord bno) (zt_ipr a m p pr bv bp) Pa := by
  have hpa := Pl.2.1
  have han : a ≤ n := by have := (T.1.2.2.2 p Pl.1).1; have := Pl.2.2.1; omega
  refine zt_c3 a (fun i hi => ?_) (fun i hi => ?_) (fun i hi hin => ?_)
  · rw [zt_in1 hi, show zt_ipr a m p pr bv bp i = pr i from if_pos hi, g1 i (by show i < n; omega)]
    by_cases z : i = 0
    · rw [if_pos z, if_pos z]
    · have := (T.1.2.2.1 i (by omega) (by omega)).1
      rw [if_neg z, if_neg z, zt_in1 (by omega)]
  · have e : zt_ipr a m p pr bv bp (a + i) = if bv i = 0 then p else a + bp i := by
      unfold zt_ipr; rw [if_neg (by omega), if_pos (by omega), Nat.add_sub_cancel_left]
    rw [zt_in2 hi, g2 i hi, e, if_neg (show ¬ a + i = 0 by omega)]
    by_cases z : bv i = 0
    · rw [if_pos z, if_pos z, zt_in1 hpa]
    · rw [if_neg z, if_neg z]
      rcases K.2.1 i hi with q | q
      · exact absurd q z
      · have := q.1
        rw [zt_in2 (by omega)]
  · have e : zt_ipr a m p pr bv bp (i + m) = if pr i < a then pr i else pr i + m := by
      unfold zt_ipr; rw [if_neg (by omega), if_neg (by omega), Nat.add_sub_cancel]
    have := (T.1.2.2.1 i (by omega) (by omega)).1
    rw [zt_in3 hi, g1 i hin, if_neg (by omega), if_neg (by omega), e]
    by_cases z : pr i < a
    · rw [if_pos z, zt_in1 z]
    · rw [if_neg z, zt_in3 (by omega)]
theorem zr_cin {n m a : Nat} {ord bno f g : Nat → Nat} {A : Nat → Int32} (han : a ≤ n) (g1 : zr_c (· < n) ord f A) (g2 : ∀ j, j < m → A (bno j) = nI (g j)) : zr_c (· < n + m) (zt_in a m ord bno) (zt_in a m f g) A := by
  refine zt_c3 a (fun i hi => ?_) (fun i hi => ?_) (fun i hi hin => ?_)
  · rw [zt_in1 hi, zt_in1 hi]; exact g1 i (by show i < n; omega)
  · rw [zt_in2 hi, zt_in2 hi]; exact g2 i hi
  · rw [zt_in3 hi, zt_in3 hi]; exact g1 i hin
theorem zr_R0 {ord : Nat → Nat} {A : Nat → Int32} : (∀ y : Nat, bt 0 y = true → y < 0) ∧ zr_R ord 0 A :=
  ⟨fun y hy => by rw [b_0] at hy; exact absurd hy (by decide), fun t ht => by rw [zb_ls0] at ht; exact absurd ht (Nat.not_lt_zero t)⟩
theorem zr_noB (n : Nat) : ∀ y : Nat, bt 0 y = true → y < n := fun y hy => by rw [b_0] at hy; exact absurd hy (by decide)
/-! the calls delete and copy -/
section
variable {xL xD xI xB xn xu xbl xfl xfo xfh xpl xpo xrm xrc : Int32} {xord xrk xpar xlab xlev xsz xlm xvm xbn xbb xbv xbs xlin xgl xgv xgs xgst xpc xpn xpm xoa xsat : Nat → Int32}
variable {yL yD yI yB yn yfc yfo ypc yrc ybc ylc : Int32} {yord ypar ylab ycell yit yres ybn ybcell ylist ycur ynext yholds : Nat → Int32}
variable {L D IL B n m o hh q po k : Nat}
theorem zv_delete (h0 : zr_bd L D IL B) (h1 : zr_tree L D B n xu xrm xord xrk xpar xlab xlev xsz xlm xvm yord ypar ylab yres) (h2 : zr_frag L D B m o hh xgl xgv xgs xgst ycell) (h3 : zr_pth IL B q po xpc xpn xpm xoa yit) (v1 : Int32) :
    wpX_delete (fun r u' => wpY_delete (fun r' v' => r' = r ∧ i_Rel k u' v') (nI L, nI D, nI IL, nI B, nI n, nI m, nI o, nI q, nI (zb_ls xrm).length, ybc, ylc, yord, ypar, ylab, ycell, yit, yres, ybn, ybcell, ylist, ycur, ynext, yholds) v1) (nI L, nI D, nI IL, nI B, nI n, xu, xbl, nI m, nI o, nI hh, nI q, nI po, xrm, nI (zb_ls xrm).length, xord, xrk, xpar, xlab, xlev, xsz, xlm, xvm, xbn, xbb, xbv, xbs, xlin, xgl, xgv, xgs, xgst, xpc, xpn, xpm, xoa, xsat) v1 := by
  have R : i_Rel k (nI L, nI D, nI IL, nI B, nI n, xu, xbl, nI m, nI o, nI hh, nI q, nI po, xrm, nI (zb_ls xrm).length, xord, xrk, xpar, xlab, xlev, xsz, xlm, xvm, xbn, xbb, xbv, xbs, xlin, xgl, xgv, xgs, xgst, xpc, xpn, xpm, xoa, xsat) (nI L, nI D, nI IL, nI B, nI n, nI m, nI o, nI q, nI (zb_ls xrm).length, ybc, ylc, yord, ypar, ylab, ycell, yit, yres, ybn, ybcell, ylist, ycur, ynext, yholds) := zr_in h0 h1 h2 h3
  obtain ⟨ord, lev, lab, sz, pr, T, U, X, Y, M1, M2⟩ := h1
  have hb := T.2.1
  unfold wpX_delete
  by_cases lv : zr_lv n ord v1
  · obtain ⟨r, hr, rfl⟩ := lv
    have oi := T.2.2.2.1 r hr
    have S := (T.1.2.2.2 r hr).1
    have ci : (nI (ord r)).toNatClampNeg = ord r := nI_clamp (by omega)
    have vi : vp_in (nI (ord r)) 32 := vp_in_nI (by omega) (by omega)
    refine zx_live1 T U hr (br_f (by decide) ?_)
    by_cases z : r = 0
    · have e0 : nI (ord r) = 0 := (zr_nI0 T hr).mpr z
      refine br_t e0 ?_
      unfold wpY_delete
      exact zy_rank1 T Y.1 hr (br_t (nI_pos' (by omega)) (br_t e0 ⟨rfl, R⟩))
    · have e0 : ¬ nI (ord r) = 0 := fun q => z ((zr_nI0 T hr).mp q)
      have T1 := zr_Tdel T (show 0 < r by omega) hr
      refine br_f e0 ⟨vi, nm_r (e' := nI (sz r + 1)) (by rw [ci, X.2.2.2.2.1 r hr, nI_1]) ⟨vi, nm_r (e' := nI r) (by rw [ci]; exact (X.1 r hr).2) ?_⟩⟩
      have key : ∀ d i (u : Int32), i + d = sz r + 1 → (∀ x, x < 32 → (bt u x = true ↔ ∃ j, j < n ∧ ord j = x ∧ ¬ (r ≤ j ∧ j < r + i))) →
          wX_delete_37 (fun r' u' => wpY_delete (fun r'' v' => r'' = r' ∧ i_Rel k u' v') (nI L, nI D, nI IL, nI B, nI n, nI m, nI o, nI q, nI (zb_ls xrm).length, ybc, ylc, yord, ypar, ylab, ycell, yit, yres, ybn, ybcell, ylist, ycur, ynext, yholds) (nI (ord r))) (nI (ord r)) (nI (sz r + 1)) (nI r) (nI L) (nI D) (nI IL) (nI B) (nI n) xbl (nI m) (nI o) (nI hh) (nI q) (nI po) xrm (nI (zb_ls xrm).length) xord xrk xpar xlab xlev xsz xlm xvm xbn xbb xbv xbs xlin xgl xgv xgs xgst xpc xpn xpm xoa xsat (d + 1) (nI i) u := by
        intro d
        induction d with
        | zero =>
          intro i u hi hu
          have e : i = sz r + 1 := by omega
          subst e
          refine br_t (nI_le (Nat.le_refl _) (by omega)) (zx_cutOut (by omega) hr T X fun A R' Sz LM VM X' => ?_)
          unfold wpX_clearResult
          show wpY_delete _ _ _
          unfold wpY_delete
          refine zy_rank1 T Y.1 hr (br_t (nI_pos' (by omega)) (br_f e0 (zy_gather T Y hr fun bn bc _ _ => zy_cut T Y (by omega) hr fun A' Y' => ⟨rfl, ?_⟩)))
          refine zr_in0 h0 ⟨_, _, _, _, _, T1, ?_, X', Y', zr_noB _, zr_R0.2⟩ h2 h3
          intro x hx
          rw [hu x hx]
          constructor
          · rintro ⟨j, j1, j2, j3⟩
            rcases Nat.lt_or_ge j r with w | w
            · exact ⟨j, by omega, by rw [zt_dl1 w]; exact j2⟩
            · exact ⟨j - (sz r + 1), by omega, by rw [zt_dl2 (by omega), show j - (sz r + 1) + (sz r + 1) = j by omega]; exact j2⟩
          · rintro ⟨j, j1, j2⟩
            rcases Nat.lt_or_ge j r with w | w
            · rw [zt_dl1 w] at j2; exact ⟨j, by omega, j2, by omega⟩
            · rw [zt_dl2 w] at j2; exact ⟨j + (sz r + 1), by omega, j2, by omega⟩
        | succ d ih =>
          intro i u hi hu
          have ori := T.2.2.2.1 (r + i) (by omega)
          refine br_f (nI_ge (by omega) (by omega)) ?_
          rw [nI_add, nI_clamp (by omega), (X.1 (r + i) (by show r + i < n; omega)).1]
          refine ⟨vp_in_nI (by omega) (by omega), nm_r (e' := u &&& (zb_1 (ord (r + i)) ^^^ (-1))) rfl (nm_r (nI_1 i) (ih (i + 1) _ (by omega) fun x hx => ?_))⟩
          rw [b_and, zb_not _ hx, zb_1b (by omega) hx, Bool.and_eq_true, hu x hx, Bool.not_eq_true', decide_eq_false_iff_not]
          constructor
          · rintro ⟨⟨j, j1, j2, j3⟩, j4⟩
            refine ⟨j, j1, j2, fun w => ?_⟩
            have : j = r + i := by omega
            subst this; exact j4 j2.symm
          · rintro ⟨j, j1, j2, j3⟩
            refine ⟨⟨j, j1, j2, by omega⟩, fun w => ?_⟩
            have := T.2.2.2.2 j (r + i) j1 (by omega) (by omega)
            omega
      exact ⟨sz r + 1 + 1, key (sz r + 1) 0 xu (by omega) fun x hx => by
        rw [U x hx]
        exact ⟨fun ⟨j, j1, j2⟩ => ⟨j, j1, j2, by omega⟩, fun ⟨j, j1, j2, _⟩ => ⟨j, j1, j2⟩⟩⟩
  · exact zx_live0 T U lv (br_t rfl (by unfold wpY_delete; exact zy_rank0 T Y.1 lv (br_f (by decide) ⟨rfl, R⟩)))
theorem zv_copy (h0 : zr_bd L D IL B) (h1 : zr_tree L D B n xu xrm xord xrk xpar xlab xlev xsz xlm xvm yord ypar ylab yres) (h2 : zr_frag L D B m o hh xgl xgv xgs xgst ycell) (h3 : zr_pth IL B q po xpc xpn xpm xoa yit) (v1 v2 v3 : Int32) :
    wpX_copy (fun r u' => wpY_copy (fun r' v' => r' = r ∧ i_Rel k u' v') (nI L, nI D, nI IL, nI B, nI n, nI m, nI o, nI q, nI (zb_ls xrm).length, ybc, ylc, yord, ypar, ylab, ycell, yit, yres, ybn, ybcell, ylist, ycur, ynext, yholds) v1 v2 v3) (nI L, nI D, nI IL, nI B, nI n, xu, xbl, nI m, nI o, nI hh, nI q, nI po, xrm, nI (zb_ls xrm).length, xord, xrk, xpar, xlab, xlev, xsz, xlm, xvm, xbn, xbb, xbv, xbs, xlin, xgl, xgv, xgs, xgst, xpc, xpn, xpm, xoa, xsat) v1 v2 v3 := by
  have R : i_Rel k (nI L, nI D, nI IL, nI B, nI n, xu, xbl, nI m, nI o, nI hh, nI q, nI po, xrm, nI (zb_ls xrm).length, xord, xrk, xpar, xlab, xlev, xsz, xlm, xvm, xbn, xbb, xbv, xbs, xlin, xgl, xgv, xgs, xgst, xpc, xpn, xpm, xoa, xsat) (nI L, nI D, nI IL, nI B, nI n, nI m, nI o, nI q, nI (zb_ls xrm).length, ybc, ylc, yord, ypar, ylab, ycell, yit, yres, ybn, ybcell, ylist, ycur, ynext, yholds) := zr_in h0 h1 h2 h3
  obtain ⟨ord, lev, lab, sz, pr, T, U, X, Y, M1, M2⟩ := h1
  have hb := T.2.1
  have hb0 := h0
  unfold zr_bd at hb0
  unfold wpX_copy
  by_cases lv : zr_lv n ord v1
  · obtain ⟨r, hr, rfl⟩ := lv
    have oi := T.2.2.2.1 r hr
    have Sr := T.1.2.2.2 r hr
    have S := Sr.1
    have ci : (nI (ord r)).toNatClampNeg = ord r := nI_clamp (by omega)
    have vi : vp_in (nI (ord r)) 32 := vp_in_nI (by omega) (by omega)
    obtain ⟨rf, hrf, rx, ry⟩ := zr_refuse T U Y.1 v2 v3
    refine zx_live1 T U hr (br_f (by decide) (rx _ ?_))
    rcases hrf with ⟨hn1, hn2⟩ | ⟨rfl, t, md, ht, hmd, h2m, rfl, rfl⟩
    · refine br_f hn2 ?_
      unfold wpY_copy
      exact zy_rank1 T Y.1 hr (br_t (nI_pos' (by omega)) (ry _ (br_f hn2 (ry _ ⟨rfl, R⟩))))
    · have Pl := zr_place T.1 ht hmd h2m
      have K := zt_sub T.1 hr
      have lvs : ∀ j, j < sz r + 1 → lev r ≤ lev (r + j) := fun j hj => zt_as_lev ((zt_asS Sr (by omega)).mpr ⟨by omega, by omega⟩)
      have yg : ∀ post : Int32 → SY → Prop, (∀ bn bc, (∀ j, j < sz r + 1 → bc j = nI (8 * (lev (r + j) - lev r) + lab (r + j)) ∧ lab (r + j) < 8 ∧ lev (r + j) - lev r ≤ 8) → wpY_graft post (nI L, nI D, nI IL, nI B, nI n, nI m, nI o, nI q, nI (zb_ls xrm).length, nI (sz r + 1), ylc, yord, ypar, ylab, ycell, yit, yres, bn, bc, ylist, ycur, ynext, yholds) (nI (ord t)) (nI md)) → wpY_copy post (nI L, nI D, nI IL, nI B, nI n, nI m, nI o, nI q, nI (zb_ls xrm).length, ybc, ylc, yord, ypar, ylab, ycell, yit, yres, ybn, ybcell, ylist, ycur, ynext, yholds) (nI (ord r)) (nI (ord t)) (nI md) := by
        intro post hp
        unfold wpY_copy
        refine zy_rank1 T Y.1 hr (br_t (nI_pos' (by omega)) (ry _ (br_t (by decide) (zy_gather T Y hr fun bn bc g1 g2 => hp bn bc fun j hj => ?_))))
        have := T.2.2.2.1 (r + j) (by omega)
        exact ⟨g2 j hj, by omega, by omega⟩
      refine br_t (by decide) ⟨vi, ?_⟩
      rw [ci, X.2.2.2.2.1 r hr, nI_1, nI_add]
      refine pk_le (n + 1 + sz r) L (fun z => ?_) (fun z => yg _ fun bn bc hc => zy_graftF T Y.2.1 ht hmd h2m (by omega) (by omega) ⟨rfl, R⟩)
      refine zx_placeLevel T X.2.2.2.1 ht hmd h2m (zx_height T X.1 X.2.2.2.2.1 X.2.2.2.1 X.2.2.2.2.2.2 hr fun hm hm1 hm2 hm3 => ?_)
      have lp := (T.2.2.2.1 _ Pl.1).2.1
      rw [nI_add]
      refine pk_le (lev (zr_pp pr md t) + 1 + hm) D (fun w => ?_) (fun w => yg _ fun bn bc hc => zy_graftD T Y.2.1 ht hmd h2m rfl (by omega) (by omega) hc ?_ ⟨rfl, R⟩)
      · have b4 : ∀ j, j < sz r + 1 → lev (zr_pp pr md t) + 1 + (lev (r + j) - lev r) ≤ D := fun j hj => by
          have := hm1 (r + j) (by omega) (by omega); omega
        refine zx_loadSubtree T X hr fun bn bb bv bs Bk => zx_numberBlock U (by omega) fun bno bn' u' hbn F hu' => ?_
        have Bk' : zr_B (sz r + 1) bno (fun i => lab (r + i)) (fun i => lev (r + i) - lev r) (fun i => sz (r + i)) bn' bb bv bs := fun i hi => ⟨hbn i hi, (Bk i hi).2⟩
        have T' := zr_Tins T Pl K (by omega) (fun i hi => by have := zr_Flt F hi; omega) (fun i hi j hj => (F i hi).1 j hj) (fun i j hi hj e => by
          rcases Nat.lt_trichotomy i j with y | y | y
          · exact absurd e ((F j hj).2.1 i y)
          · exact y
          · exact absurd e.symm ((F i hi).2.1 j y)) b4 (fun i hi => (T.2.2.2.1 (r + i) (by omega)).2.2) (blab := fun i => lab (r + i))
        refine zx_paste ht hmd h2m rfl rfl T' T X K Bk' fun A R' Pa La Le Sz LM VM Ln X' => ?_
        unfold wpX_clearResult
        show wpY_copy _ _ _ _ _
        rw [hbn 0 (by omega)]
        refine yg _ fun bn2 bc hc => zy_graftS (bno := bno) T Y ht hmd h2m rfl rfl K (by omega) F hc b4 fun A2 Pa2 La2 Y' => ⟨rfl, ?_⟩
        have han : zr_at sz md t ≤ n := by have := (T.1.2.2.2 _ Pl.1).1; have := Pl.2.2.1; omega
        exact zr_in0 h0 ⟨_, _, _, _, _, T', zr_Uin han hu', X', Y', zr_noB _, zr_R0.2⟩ h2 h3
      · obtain ⟨a, a1, a2, a3⟩ := hm2
        exact ⟨a - r, by omega, by rw [show r + (a - r) = a by omega]; omega⟩
  · exact zx_live0 T U lv (br_t rfl (by unfold wpY_copy; exact zy_rank0 T Y.1 lv (br_f (by decide) ⟨rfl, R⟩)))
end
end
section
/-! ===== insert, move ===== -/
section
variable {xL xD xI xB xn xu xbl xfl xfo xfh xpl xpo xrm xrc : Int32} {xord xrk xpar xlab xlev xsz xlm xvm xbn xbb xbv xbs xlin xgl xgv xgs xgst xpc xpn xpm xoa xsat : Nat → Int32}
variable {yL yD yI yB yn yfc yfo ypc yrc ybc ylc : Int32} {yord ypar ylab ycell yit yres ybn ybcell ylist ycur ynext yholds : Nat → Int32}
variable {L D IL B n m o hh q po k : Nat}
theorem zy_ins38 {post : Int32 → SY → Prop} {x1 x2 : Int32} (hm : m ≤ 32) (h : ∀ bc, (∀ i, i < m → bc i = ycell i) → wpY_graft (fun r u => match u with | (yL, yD, yI, yB, yn, yfc, yfo, ypc, yrc, ybc, ylc, yord, ypar, ylab, ycell, yit, yres, ybn, ybcell, ylist, ycur, ynext, yholds) => ((r < 0 → (post r (yL, yD, yI, yB, yn, yfc, yfo, ypc, yrc, ybc, ylc, yord, ypar, ylab, ycell, yit, yres, ybn, ybcell, ylist, ycur, ynext, yholds))) ∧ (¬ r < 0 → (wpY_discard (fun _ u => match u with | (yL, yD, yI, yB, yn, yfc, yfo, ypc, yrc, ybc, ylc, yord, ypar, ylab, ycell, yit, yres, ybn, ybcell, ylist, ycur, ynext, yholds) => (post r (yL, yD, yI, yB, yn, yfc, yfo, ypc, yrc, ybc, ylc, yord, ypar, ylab, ycell, yit, yres, ybn, ybcell, ylist, ycur, ynext, yholds))) (yL, yD, yI, yB, yn, yfc, yfo, ypc, yrc, ybc, ylc, yord, ypar, ylab, ycell, yit, yres, ybn, ybcell, ylist, ycur, ynext, yholds))))) (yL, yD, yI, yB, yn, nI m, yfo, ypc, yrc, nI m, ylc, yord, ypar, ylab, ycell, yit, yres, ybn, bc, ylist, ycur, ynext, yholds) x1 x2) :
    ∃ f, wY_insert_38 post x1 x2 yL yD yI yB yn (nI m) yfo ypc yrc ybc ylc f 0 yord ypar ylab ycell yit yres ybn ybcell ylist ycur ynext yholds := by
  have key : ∀ d i (bc : Nat → Int32), i + d = m → (∀ j, j < i → bc j = ycell j) → wY_insert_38 post x1 x2 yL yD yI yB yn (nI m) yfo ypc yrc ybc ylc (d + 1) (nI i) yord ypar ylab ycell yit yres ybn bc ylist ycur ynext yholds := by
    intro d
    induction d with
    | zero =>
      intro i bc hi hI
      have e : i = m := by omega
      subst e
      exact br_t (nI_le (Nat.le_refl _) (by omega)) (h bc hI)
    | succ d ih =>
      intro i bc hi hI
      have c : (nI i).toNatClampNeg = i := nI_clamp (by omega)
      have v : vp_in (nI i) 32 := vp_in_nI (by omega) (by omega)
      refine br_f (nI_ge (by omega) (by omega)) ⟨v, v, nm_e (nm_r (nI_1 i) (ih (i + 1) _ (by omega) ?_))⟩
      rw [c]
      refine lt_s (fun j hj => ?_) pk_us
      rw [pk_un (by omega)]; exact hI j hj
  exact ⟨m + 1, key m 0 _ (by omega) lt_0⟩
theorem zv_insert (h0 : zr_bd L D IL B) (h1 : zr_tree L D B n xu xrm xord xrk xpar xlab xlev xsz xlm xvm yord ypar ylab yres) (h2 : zr_frag L D B m o hh xgl xgv xgs xgst ycell) (h3 : zr_pth IL B q po xpc xpn xpm xoa yit) (v1 v2 : Int32) :
    wpX_insert (fun r u' => wpY_insert (fun r' v' => r' = r ∧ i_Rel k u' v') (nI L, nI D, nI IL, nI B, nI n, nI m, nI o, nI q, nI (zb_ls xrm).length, ybc, ylc, yord, ypar, ylab, ycell, yit, yres, ybn, ybcell, ylist, ycur, ynext, yholds) v1 v2) (nI L, nI D, nI IL, nI B, nI n, xu, xbl, nI m, nI o, nI hh, nI q, nI po, xrm, nI (zb_ls xrm).length, xord, xrk, xpar, xlab, xlev, xsz, xlm, xvm, xbn, xbb, xbv, xbs, xlin, xgl, xgv, xgs, xgst, xpc, xpn, xpm, xoa, xsat) v1 v2 := by
  have R : i_Rel k (nI L, nI D, nI IL, nI B, nI n, xu, xbl, nI m, nI o, nI hh, nI q, nI po, xrm, nI (zb_ls xrm).length, xord, xrk, xpar, xlab, xlev, xsz, xlm, xvm, xbn, xbb, xbv, xbs, xlin, xgl, xgv, xgs, xgst, xpc, xpn, xpm, xoa, xsat) (nI L, nI D, nI IL, nI B, nI n, nI m, nI o, nI q, nI (zb_ls xrm).length, ybc, ylc, yord, ypar, ylab, ycell, yit, yres, ybn, ybcell, ylist, ycur, ynext, yholds) := zr_in h0 h1 h2 h3
  have fb := zr_fb h2
  obtain ⟨ord, lev, lab, sz, pr, T, U, X, Y, M1, M2⟩ := h1
  have hb := T.2.1
  have hb0 := h0
  unfold zr_bd at hb0
  unfold wpX_insert
  rcases Nat.eq_zero_or_pos m with m0 | m0
  · have e0 : nI m = 0 := by rw [m0]; rfl
    refine br_t e0 ?_
    unfold wpY_insert
    exact br_t e0 ⟨rfl, R⟩
  · have e0 : ¬ nI m = 0 := nI_ne0 m0 (by omega)
    refine br_f e0 ?_
    rcases Nat.eq_zero_or_pos o with o0 | o0
    · have eo : nI o ≤ 0 := by rw [o0]; decide
      refine br_t eo ?_
      obtain ⟨rf, hrf, rx, ry⟩ := zr_refuse T U Y.1 v1 v2
      refine rx _ ?_
      rcases hrf with ⟨hn1, hn2⟩ | ⟨rfl, t, md, ht, hmd, h2m, rfl, rfl⟩
      · refine br_f hn2 ?_
        unfold wpY_insert
        exact br_f e0 (br_t eo (ry _ (br_f hn2 (ry _ ⟨rfl, R⟩))))
      · have Pl := zr_place T.1 ht hmd h2m
        obtain ⟨fl, fv, fs, st, fp, f1, f2, f3, f4, f5, f6⟩ := h2
        have K : zt_bk m fv fs fp := ⟨m0, f5, fun i hi => by
          rcases f6 i hi with ⟨z, _⟩ | ⟨z, _⟩
          · omega
          · exact z⟩
        have lp := (T.2.2.2.1 _ Pl.1).2.1
        have yg : ∀ post : Int32 → SY → Prop, (∀ bc, (∀ j, j < m → bc j = nI (8 * fv j + fl j) ∧ fl j < 8 ∧ fv j ≤ 8) → wpY_graft (fun r u => match u with | (yL, yD, yI, yB, yn, yfc, yfo, ypc, yrc, ybc, ylc, yord, ypar, ylab, ycell, yit, yres, ybn, ybcell, ylist, ycur, ynext, yholds) => ((r < 0 → (post r (yL, yD, yI, yB, yn, yfc, yfo, ypc, yrc, ybc, ylc, yord, ypar, ylab, ycell, yit, yres, ybn, ybcell, ylist, ycur, ynext, yholds))) ∧ (¬ r < 0 → (wpY_discard (fun _ u => match u with | (yL, yD, yI, yB, yn, yfc, yfo, ypc, yrc, ybc, ylc, yord, ypar, ylab, ycell, yit, yres, ybn, ybcell, ylist, ycur, ynext, yholds) => (post r (yL, yD, yI, yB, yn, yfc, yfo, ypc, yrc, ybc, ylc, yord, ypar, ylab, ycell, yit, yres, ybn, ybcell, ylist, ycur, ynext, yholds))) (yL, yD, yI, yB, yn, yfc, yfo, ypc, yrc, ybc, ylc, yord, ypar, ylab, ycell, yit, yres, ybn, ybcell, ylist, ycur, ynext, yholds))))) (nI L, nI D, nI IL, nI B, nI n, nI m, nI o, nI q, nI (zb_ls xrm).length, nI m, ylc, yord, ypar, ylab, ycell, yit, yres, ybn, bc, ylist, ycur, ynext, yholds) (nI (ord t)) (nI md)) → wpY_insert post (nI L, nI D, nI IL, nI B, nI n, nI m, nI o, nI q, nI (zb_ls xrm).length, ybc, ylc, yord, ypar, ylab, ycell, yit, yres, ybn, ybcell, ylist, ycur, ynext, yholds) (nI (ord t)) (nI md) := by
          intro post hp
          unfold wpY_insert
          refine br_f e0 (br_t eo (ry _ (br_t (by decide) (zy_ins38 (by omega) fun bc hbc => hp bc fun j hj => ?_))))
          obtain ⟨a1, a2, a3, a4, a5, a6⟩ := f2 j hj
          exact ⟨(hbc j hj).trans a4, by omega, by omega⟩
        refine br_t (by decide) ?_
        rw [nI_add]
        refine pk_le (n + m) L (fun z => ?_) (fun z => yg _ fun bc hc => zy_graftF T Y.2.1 ht hmd h2m (by omega) (by omega) (br_t (by decide) ⟨rfl, R⟩))
        refine zx_placeLevel T X.2.2.2.1 ht hmd h2m ?_
        rw [nI_add]
        refine pk_le (lev (zr_pp pr md t) + 1 + hh) D (fun w => ?_) (fun w => yg _ fun bc hc => zy_graftD T Y.2.1 ht hmd h2m rfl (by omega) (by omega) hc ?_ (br_t (by decide) ⟨rfl, R⟩))
        · have b4 : ∀ j, j < m → lev (zr_pp pr md t) + 1 + fv j ≤ D := fun j hj => by have := (f2 j hj).2.2.2.2.2; omega
          refine zx_loadFragment (by omega) fun bb bv bs hB => zx_numberBlock U (by omega) fun bno bn' u' hbn F hu' => ?_
          have Bk' : zr_B m bno fl fv fs bn' bb bv bs := fun i hi => by
            obtain ⟨a1, a2, a3, a4, a5, a6⟩ := f2 i hi
            obtain ⟨c1, c2, c3⟩ := hB i hi
            exact ⟨hbn i hi, c1.trans a1, c2.trans a2, c3.trans a3⟩
          have T' := zr_Tins T Pl K (by omega) (fun i hi => by have := zr_Flt F hi; omega) (fun i hi j hj => (F i hi).1 j hj) (fun i j hi hj e => by
            rcases Nat.lt_trichotomy i j with y | y | y
            · exact absurd e ((F j hj).2.1 i y)
            · exact y
            · exact absurd e.symm ((F i hi).2.1 j y)) b4 (fun i hi => (f2 i hi).2.2.2.2.1) (blab := fl)
          refine zx_paste ht hmd h2m rfl rfl T' T X K Bk' fun A R' Pa La Le Sz LM VM Ln X' => ?_
          unfold wpX_discard wpX_clearResult
          show wpY_insert _ _ _ _
          rw [hbn 0 m0]
          refine yg _ fun bc hc => zy_graftS (bno := bno) T Y ht hmd h2m rfl rfl K (by omega) F hc b4 fun A2 Pa2 La2 Y' => br_f (nI_pos (by have := zr_Flt F m0; omega)) ?_
          unfold wpY_discard
          refine ⟨rfl, ?_⟩
          have han : zr_at sz md t ≤ n := by have := (T.1.2.2.2 _ Pl.1).1; have := Pl.2.2.1; omega
          exact zr_in0 (m := 0) (o := 0) (hh := 0) h0 ⟨_, _, _, _, _, T', zr_Uin han hu', X', Y', zr_noB _, zr_R0.2⟩ (zr_frag0 (by omega) _ _ _ _ _) h3
        · rcases f3 with y | ⟨i, hi, y⟩
          · exact ⟨0, m0, by omega⟩
          · exact ⟨i, hi, by omega⟩
    · have eo : ¬ nI o ≤ 0 := nI_nle o0 (by omega)
      refine br_f eo ?_
      unfold wpY_insert
      exact br_f e0 (br_f eo ⟨rfl, R⟩)
theorem zv_move (h0 : zr_bd L D IL B) (h1 : zr_tree L D B n xu xrm xord xrk xpar xlab xlev xsz xlm xvm yord ypar ylab yres) (h2 : zr_frag L D B m o hh xgl xgv xgs xgst ycell) (h3 : zr_pth IL B q po xpc xpn xpm xoa yit) (v1 v2 v3 : Int32) :
    wpX_move (fun r u' => wpY_move (fun r' v' => r' = r ∧ i_Rel k u' v') (nI L, nI D, nI IL, nI B, nI n, nI m, nI o, nI q, nI (zb_ls xrm).length, ybc, ylc, yord, ypar, ylab, ycell, yit, yres, ybn, ybcell, ylist, ycur, ynext, yholds) v1 v2 v3) (nI L, nI D, nI IL, nI B, nI n, xu, xbl, nI m, nI o, nI hh, nI q, nI po, xrm, nI (zb_ls xrm).length, xord, xrk, xpar, xlab, xlev, xsz, xlm, xvm, xbn, xbb, xbv, xbs, xlin, xgl, xgv, xgs, xgst, xpc, xpn, xpm, xoa, xsat) v1 v2 v3 := by
  have R : i_Rel k (nI L, nI D, nI IL, nI B, nI n, xu, xbl, nI m, nI o, nI hh, nI q, nI po, xrm, nI (zb_ls xrm).length, xord, xrk, xpar, xlab, xlev, xsz, xlm, xvm, xbn, xbb, xbv, xbs, xlin, xgl, xgv, xgs, xgst, xpc, xpn, xpm, xoa, xsat) (nI L, nI D, nI IL, nI B, nI n, nI m, nI o, nI q, nI (zb_ls xrm).length, ybc, ylc, yord, ypar, ylab, ycell, yit, yres, ybn, ybcell, ylist, ycur, ynext, yholds) := zr_in h0 h1 h2 h3
  obtain ⟨ord, lev, lab, sz, pr, T, U, X, Y, M1, M2⟩ := h1
  have hb := T.2.1
  have hb0 := h0
  unfold zr_bd at hb0
  unfold wpX_move
  by_cases lv : zr_lv n ord v1
  · obtain ⟨r, hr, rfl⟩ := lv
    have oi := T.2.2.2.1 r hr
    have Sr := T.1.2.2.2 r hr
    have S := Sr.1
    have ci : (nI (ord r)).toNatClampNeg = ord r := nI_clamp (by omega)
    have vi : vp_in (nI (ord r)) 32 := vp_in_nI (by omega) (by omega)
    obtain ⟨rf, hrf, rx, ry⟩ := zr_refuse T U Y.1 v2 v3
    refine zx_live1 T U hr (br_f (by decide) (rx _ ?_))
    rcases hrf with ⟨hn1, hn2⟩ | ⟨rfl, t, md, ht, hmd, h2m, rfl, rfl⟩
    · refine br_f hn2 ?_
      unfold wpY_move
      exact zy_rank1 T Y.1 hr (br_t (nI_pos' (by omega)) (ry _ (br_f hn2 (ry _ ⟨rfl, R⟩))))
    · refine br_t (by decide) ?_
      have y0 : ∀ post : Int32 → SY → Prop, (((nI (ord r) = 0 → (post (-5) (nI L, nI D, nI IL, nI B, nI n, nI m, nI o, nI q, nI (zb_ls xrm).length, ybc, ylc, yord, ypar, ylab, ycell, yit, yres, ybn, ybcell, ylist, ycur, ynext, yholds))) ∧ (¬ nI (ord r) = 0 → (((nI (ord t) = nI (ord r) → (post (-5) (nI L, nI D, nI IL, nI B, nI n, nI m, nI o, nI q, nI (zb_ls xrm).length, ybc, ylc, yord, ypar, ylab, ycell, yit, yres, ybn, ybcell, ylist, ycur, ynext, yholds))) ∧ (¬ nI (ord t) = nI (ord r) → (((r < t ∧ t ≤ r + sz r → post (-5) (nI L, nI D, nI IL, nI B, nI n, nI m, nI o, nI q, nI (zb_ls xrm).length, ybc, ylc, yord, ypar, ylab, ycell, yit, yres, ybn, ybcell, ylist, ycur, ynext, yholds)) ∧ (¬ (r < t ∧ t ≤ r + sz r) → wpY_gather (fun u => match u with | (yL, yD, yI, yB, yn, yfc, yfo, ypc, yrc, ybc, ylc, yord, ypar, ylab, ycell, yit, yres, ybn, ybcell, ylist, ycur, ynext, yholds) => (((2 ≤ nI md → (vp_in (nI (ord t)) 32 ∧ (wY_move_68 post (nI (ord r)) (nI (ord t)) (nI md) (ypar (nI (ord t)).toNatClampNeg) yL yD yI yB yn yfc yfo ypc yrc ybc ylc yord ypar ylab ycell yit yres ybn ybcell ylist ycur ynext yholds))) ∧ (¬ 2 ≤ nI md → (wY_move_68 post (nI (ord r)) (nI (ord t)) (nI md) (nI (ord t)) yL yD yI yB yn yfc yfo ypc yrc ybc ylc yord ypar ylab ycell yit yres ybn ybcell ylist ycur ynext yholds))))) (nI L, nI D, nI IL, nI B, nI n, nI m, nI o, nI q, nI (zb_ls xrm).length, ybc, ylc, yord, ypar, ylab, ycell, yit, yres, ybn, ybcell, ylist, ycur, ynext, yholds) (nI (ord r))))))))))) → wpY_move post (nI L, nI D, nI IL, nI B, nI n, nI m, nI o, nI q, nI (zb_ls xrm).length, ybc, ylc, yord, ypar, ylab, ycell, yit, yres, ybn, ybcell, ylist, ycur, ynext, yholds) (nI (ord r)) (nI (ord t)) (nI md) := by
        intro post hp
        unfold wpY_move
        exact zy_rank1 T Y.1 hr (br_t (nI_pos' (by omega)) (ry _ (br_t (by decide) ⟨hp.1, fun z => ⟨(hp.2 z).1, fun w => zy_above T Y.2.1 hr ht (fun y => br_f (by decide) (((hp.2 z).2 w).1 y)) (fun y => br_t rfl (((hp.2 z).2 w).2 y))⟩⟩)))
      by_cases r0 : r = 0
      · have e0 : nI (ord r) = 0 := (zr_nI0 T hr).mpr r0
        exact br_t e0 (y0 _ (br_t e0 ⟨rfl, R⟩))
      · have e0 : ¬ nI (ord r) = 0 := fun w => r0 ((zr_nI0 T hr).mp w)
        refine br_f e0 (zx_isWithin T X.1 X.2.2.2.2.1 ht hr (fun z => br_f (by decide) (y0 _ (br_f e0 (br_c (fun w => ⟨rfl, R⟩) (fun w => br_t ?_ ⟨rfl, R⟩))))) (fun z => br_t rfl ?_))
        · have : t ≠ r := fun e => w (by rw [e])
          omega
        · have tr : ¬ nI (ord t) = nI (ord r) := fun e => by have := (zr_nIj T ht hr).mp e; omega
          have Pl := zr_place T.1 ht hmd h2m
          have K := zt_sub T.1 hr
          have r1 : 0 < r := by omega
          have lp := (T.2.2.2.1 _ Pl.1).2.1
          have ot := T.2.2.2.1 t ht
          have ct : (nI (ord t)).toNatClampNeg = ord t := nI_clamp (by omega)
          have vt : vp_in (nI (ord t)) 32 := vp_in_nI (by omega) (by omega)
          have lvs : ∀ j, j < sz r + 1 → lev r ≤ lev (r + j) := fun j hj => zt_as_lev ((zt_asS Sr (by omega)).mpr ⟨by omega, by omega⟩)
          -- Y as far as wY_move_68
          have yg : ∀ post : Int32 → SY → Prop, (∀ bn bc, (∀ j, j < sz r + 1 → bn j = nI (ord (r + j))) → (∀ j, j < sz r + 1 → bc j = nI (8 * (lev (r + j) - lev r) + lab (r + j)) ∧ lab (r + j) < 8 ∧ lev (r + j) - lev r ≤ 8) → wY_move_68 post (nI (ord r)) (nI (ord t)) (nI md) (nI (ord (zr_pp pr md t))) (nI L) (nI D) (nI IL) (nI B) (nI n) (nI m) (nI o) (nI q) (nI (zb_ls xrm).length) (nI (sz r + 1)) ylc yord ypar ylab ycell yit yres bn bc ylist ycur ynext yholds) → wpY_move post (nI L, nI D, nI IL, nI B, nI n, nI m, nI o, nI q, nI (zb_ls xrm).length, ybc, ylc, yord, ypar, ylab, ycell, yit, yres, ybn, ybcell, ylist, ycur, ynext, yholds) (nI (ord r)) (nI (ord t)) (nI md) := by
            intro post hp
            refine y0 _ (br_f e0 (br_f tr (br_f (by omega) (zy_gather T Y hr fun bn bc g1 g2 => ?_))))
            have hp' := hp bn bc g1 (fun j hj => by
              have := T.2.2.2.1 (r + j) (by omega)
              exact ⟨g2 j hj, by omega, by omega⟩)
            unfold zr_pp at hp'
            by_cases w : md < 2
            · rw [if_pos w] at hp'
              exact br_f (nI_ge (b := 2) w (by decide)) hp'
            · rw [if_neg w] at hp'
              refine br_t (nI_le (a := 2) (by omega) (by omega)) ⟨vt, ?_⟩
              rw [ct, Y.2.1 t ht, if_neg (by have := h2m (by omega); omega)]
              exact hp'
          refine zx_placeLevel T X.2.2.2.1 ht hmd h2m (zx_height T X.1 X.2.2.2.2.1 X.2.2.2.1 X.2.2.2.2.2.2 hr fun hm hm1 hm2 hm3 => ?_)
          rw [nI_add]
          refine pk_le (lev (zr_pp pr md t) + 1 + hm) D (fun w => ?_) (fun w => yg _ fun bn bc _ hc => ?_)
          · have b4 : ∀ j, j < sz r + 1 → lev (zr_pp pr md t) + 1 + (lev (r + j) - lev r) ≤ D := fun j hj => by
              have := hm1 (r + j) (by omega) (by omega); omega
            refine zx_loadSubtree T X hr fun bn bb bv bs Bk => zx_cutOut r1 hr T X fun A R' Sz LM VM X1 => ?_
            have T1 := zr_Tdel T r1 hr
            -- the target's rank behind the cut
            obtain ⟨t', ht1, ht2, ht3, ht4⟩ : ∃ t', t' < n - (sz r + 1) ∧ zt_dl r (sz r + 1) ord t' = ord t ∧ zt_dl r (sz r + 1) lev t' = lev t ∧ (0 < t → 0 < t') := by
              rcases Nat.lt_or_ge t r with y | y
              · exact ⟨t, by omega, zt_dl1 y, zt_dl1 y, fun h => h⟩
              · refine ⟨t - (sz r + 1), by omega, ?_, ?_, fun _ => by omega⟩
                · rw [zt_dl2 (by omega), show t - (sz r + 1) + (sz r + 1) = t by omega]
                · rw [zt_dl2 (by omega), show t - (sz r + 1) + (sz r + 1) = t by omega]
            have h2m' : 2 ≤ md → 0 < t' := fun y => ht4 (h2m y)
            have Pl1 := zr_place T1.1 ht1 hmd h2m'
            obtain ⟨p1, hp1⟩ : ∃ p1, p1 = zr_pp (zt_dpr r (sz r + 1) pr) md t' := ⟨_, rfl⟩
            obtain ⟨a1, ha1⟩ : ∃ a1, a1 = zr_at (zt_dl r (sz r + 1) (zt_dsz (pr r) (sz r + 1) sz)) md t' := ⟨_, rfl⟩
            rw [← hp1, ← ha1] at Pl1
            have lev1 : zt_dl r (sz r + 1) lev p1 = lev (zr_pp pr md t) := by
              rw [hp1]
              unfold zr_pp
              by_cases y : md < 2
              · rw [if_pos y, if_pos y]; exact ht3
              · rw [if_neg y, if_neg y]
                have q1 := (T1.1.2.2.1 t' (h2m' (by omega)) ht1).2.1
                have q2 := (T.1.2.2.1 t (h2m (by omega)) ht).2.1
                omega
            have b41 : ∀ j, j < sz r + 1 → zt_dl r (sz r + 1) lev p1 + 1 + (lev (r + j) - lev r) ≤ D := fun j hj => by rw [lev1]; exact b4 j hj
            have T2 := zr_Tins T1 Pl1 K (show n - (sz r + 1) + (sz r + 1) ≤ L by omega) (bno := fun i => ord (r + i)) (fun i hi => (T.2.2.2.1 (r + i) (by omega)).1) (fun i hi j hj e => by
              rcases Nat.lt_or_ge j r with y | y
              · rw [zt_dl1 y] at e; have := T.2.2.2.2 j (r + i) (by omega) (by omega) e; omega
              · rw [zt_dl2 y] at e; have := T.2.2.2.2 _ (r + i) (show j + (sz r + 1) < n by omega) (by omega) e; omega) (fun i j hi hj e => by have := T.2.2.2.2 (r + i) (r + j) (by omega) (by omega) e; omega) b41 (fun i hi => (T.2.2.2.1 (r + i) (by omega)).2.2) (blab := fun i => lab (r + i))
            have han : a1 ≤ n - (sz r + 1) := by have := (T1.1.2.2.2 _ Pl1.1).1; have := Pl1.2.2.1; omega
            rw [← ht2]
            refine zx_paste ht1 hmd h2m' hp1 ha1 T2 T1 X1 K Bk fun A2 R2 Pa2 La2 Le2 Sz2 LM2 VM2 Ln2 X2 => ?_
            unfold wpX_clearResult
            show vp_in _ 32 ∧ wpY_move _ _ _ _ _
            rw [ht2, ci]
            -- X's answer
            have ans : R2 (ord r) = nI a1 := by
              have q1 := (X2.1 (a1 + 0) (by show a1 + 0 < n - (sz r + 1) + (sz r + 1); omega)).2
              rw [zt_in2 (show 0 < sz r + 1 by omega)] at q1
              exact q1
            rw [ans]
            refine ⟨vi, yg _ fun bn2 bc2 hbn2 hc2 => ?_⟩
            unfold wY_move_68
            refine zy_tooDeep (bv := fun j => lev (r + j) - lev r) (bl := fun j => lab (r + j)) T Y.2.1 Pl.1 (by omega) hc2 (fun _ => br_t rfl (zy_cut T Y r1 hr fun A3 Y1 => ?_)) (fun ⟨j, hj, e⟩ => by have := b4 j hj; omega)
            have hpn : nI (ord (zr_pp pr md t)) = nI (zt_dl r (sz r + 1) ord p1) := by
              rw [hp1]
              unfold zr_pp
              by_cases y : md < 2
              · rw [if_pos y, if_pos y, ht2]
              · rw [if_neg y, if_neg y]
                have q1 := Y.2.1 t ht
                have q2 := Y1.2.1 t' ht1
                rw [if_neg (by have := h2m (by omega); omega)] at q1
                rw [if_neg (by have := h2m' (by omega); omega), ht2] at q2
                exact q1.symm.trans q2
            rw [hpn, ← ht2]
            refine zy_placeRank T1 Y1.1 Y1.2.1 ht1 hmd ⟨sz r + 1 + 1, ?_⟩
            rw [← ha1]
            refine zy_m98 (bno := fun i => ord (r + i)) (ord := zt_dl r (sz r + 1) ord) (n := n - (sz r + 1)) (m := sz r + 1) (a := a1) (by omega) han (by omega) (show ord r < 32 by omega) hbn2 ?fin (sz r + 1) 0 A3 (by omega) ?ini
            case fin =>
              intro A4 hA4
              refine ⟨rfl, ?_⟩
              have bz : ∀ j, j < sz r + 1 → (lev (r + j) - lev r = 0 ↔ j = 0) := by
                intro j hj
                constructor
                · intro e
                  rcases Nat.eq_zero_or_pos j with y | y
                  · exact y
                  · have := Sr.2.1 (r + j) (by omega) (by omega); omega
                · intro e; subst e; rw [Nat.add_zero]; omega
              refine zr_in0 h0 ⟨_, _, _, _, _, T2, zr_Uin han (fun x hx => ?_), X2, ⟨hA4, zr_Pin T1 Pl1 K (fun i hi => ?_) (fun j hj => ?_), zr_cin han Y1.2.2 (fun j hj => Y.2.2 (r + j) (by show r + j < n; omega))⟩, zr_noB _, zr_R0.2⟩ h2 h3
              · rw [U x hx]
                constructor
                · rintro ⟨j, j1, j2⟩
                  rcases Nat.lt_or_ge j r with y | y
                  · exact Or.inl ⟨j, by omega, by rw [zt_dl1 y]; exact j2⟩
                  · rcases Nat.lt_or_ge j (r + (sz r + 1)) with y2 | y2
                    · exact Or.inr ⟨j - r, by omega, by rw [show r + (j - r) = j by omega]; exact j2⟩
                    · exact Or.inl ⟨j - (sz r + 1), by omega, by rw [zt_dl2 (by omega), show j - (sz r + 1) + (sz r + 1) = j by omega]; exact j2⟩
                · rintro (⟨j, j1, j2⟩ | ⟨j, j1, j2⟩)
                  · rcases Nat.lt_or_ge j r with y | y
                    · rw [zt_dl1 y] at j2; exact ⟨j, by omega, j2⟩
                    · rw [zt_dl2 y] at j2; exact ⟨j + (sz r + 1), by omega, j2⟩
                  · exact ⟨r + j, by omega, j2⟩
              · have hi : i < n - (sz r + 1) := hi
                rw [pk_un, Y1.2.1 i hi]
                intro e
                rcases Nat.lt_or_ge i r with y | y
                · rw [zt_dl1 y] at e; have := T.2.2.2.2 i r (by omega) hr e; omega
                · rw [zt_dl2 y] at e; have := T.2.2.2.2 _ r (show i + (sz r + 1) < n by omega) hr e; omega
              · by_cases y : j = 0
                · subst y
                  rw [if_pos ((bz 0 hj).mpr rfl)]
                  exact pk_us
                · rw [if_neg (fun e => y ((bz j hj).mp e)), pk_un (fun e => by have := T.2.2.2.2 (r + j) r (by omega) hr e; omega), Y.2.1 (r + j) (by show r + j < n; omega), if_neg (by omega)]
                  have := zt_prin T.1 (show r < r + j by omega) (by omega) hr
                  rw [show r + (pr (r + j) - r) = pr (r + j) by omega]
            case ini =>
              intro i hi
              have hi : i < n - (sz r + 1) := hi
              rw [Y1.1 i hi]
              unfold zt_in
              by_cases y : i < a1
              · rw [if_pos y]
              · rw [if_neg y, if_neg (by omega)]; rfl
          · unfold wY_move_68
            refine zy_tooDeep (bv := fun j => lev (r + j) - lev r) (bl := fun j => lab (r + j)) T Y.2.1 Pl.1 (by omega) hc (fun hall => ?_) (fun _ => br_f (by decide) ⟨rfl, R⟩)
            obtain ⟨a, a1, a2, a3⟩ := hm2
            have := hall (a - r) (by omega)
            have e : r + (a - r) = a := by omega
            rw [e] at this
            omega
  · exact zx_live0 T U lv (br_t rfl (by unfold wpY_move; exact zy_rank0 T Y.1 lv (br_f (by decide) ⟨rfl, R⟩)))
end
end
section
/-! ===== run ===== -/
section
variable {xL xD xI xB xn xu xbl xfl xfo xfh xpl xpo xrm xrc : Int32} {xord xrk xpar xlab xlev xsz xlm xvm xbn xbb xbv xbs xlin xgl xgv xgs xgst xpc xpn xpm xoa xsat : Nat → Int32}
variable {yL yD yI yB yn yfc yfo ypc yrc ybc ylc : Int32} {yord ypar ylab ycell yit yres ybn ybcell ylist ycur ynext yholds : Nat → Int32}
variable {L D IL B n m o hh q po k : Nat}
theorem zv_run (h0 : zr_bd L D IL B) (h1 : zr_tree L D B n xu xrm xord xrk xpar xlab xlev xsz xlm xvm yord ypar ylab yres) (h2 : zr_frag L D B m o hh xgl xgv xgs xgst ycell) (h3 : zr_pth IL B q po xpc xpn xpm xoa yit) (v1 : Int32) :
    wpX_run (fun r u' => wpY_run (fun r' v' => r' = r ∧ i_Rel k u' v') (nI L, nI D, nI IL, nI B, nI n, nI m, nI o, nI q, nI (zb_ls xrm).length, ybc, ylc, yord, ypar, ylab, ycell, yit, yres, ybn, ybcell, ylist, ycur, ynext, yholds) v1) (nI L, nI D, nI IL, nI B, nI n, xu, xbl, nI m, nI o, nI hh, nI q, nI po, xrm, nI (zb_ls xrm).length, xord, xrk, xpar, xlab, xlev, xsz, xlm, xvm, xbn, xbb, xbv, xbs, xlin, xgl, xgv, xgs, xgst, xpc, xpn, xpm, xoa, xsat) v1 := by
  have R : i_Rel k (nI L, nI D, nI IL, nI B, nI n, xu, xbl, nI m, nI o, nI hh, nI q, nI po, xrm, nI (zb_ls xrm).length, xord, xrk, xpar, xlab, xlev, xsz, xlm, xvm, xbn, xbb, xbv, xbs, xlin, xgl, xgv, xgs, xgst, xpc, xpn, xpm, xoa, xsat) (nI L, nI D, nI IL, nI B, nI n, nI m, nI o, nI q, nI (zb_ls xrm).length, ybc, ylc, yord, ypar, ylab, ycell, yit, yres, ybn, ybcell, ylist, ycur, ynext, yholds) := zr_in h0 h1 h2 h3
  have h3' := h3
  obtain ⟨ord, lev, lab, sz, pr, T, U, X, Y, M1, M2⟩ := h1
  obtain ⟨code, nest, mate, nd, oa, P, Q, I, E, A, C⟩ := h3
  have hb := T.2.1
  have hb0 := h0
  unfold zr_bd at hb0
  have un : ∀ post : Int32 → Prop, post (nI po) → wpY_unclosed post (nI L, nI D, nI IL, nI B, nI n, nI m, nI o, nI q, nI (zb_ls xrm).length, ybc, ylc, yord, ypar, ylab, ycell, yit, yres, ybn, ybcell, ylist, ycur, ynext, yholds) := by
    intro post hp
    rw [E.2.1] at hp
    exact zy_unclosed (by omega) P I hp
  unfold wpX_run
  rcases Nat.eq_zero_or_pos q with q0 | q0
  · have e0 : nI q = 0 := by rw [q0]; rfl
    refine br_t e0 ?_
    unfold wpY_run
    exact br_t e0 ⟨rfl, R⟩
  · have e0 : ¬ nI q = 0 := nI_ne0 q0 (by omega)
    refine br_f e0 ?_
    rcases Nat.eq_zero_or_pos po with p0 | p0
    · have ep : nI po ≤ 0 := by rw [p0]; decide
      refine br_t ep ?_
      have hcl : ∀ o, o < q → (code o = 500 ∨ code o = 501) → ∃ c, c < q ∧ code c = 600 ∧ mate c = o := by
        intro i hi hc
        rcases C i hi hc with ⟨d, hd, -⟩ | z
        · omega
        · exact z
      -- both runs from one set
      have go : ∀ C0 : Int32, (∀ y, bt C0 y = true → y < n) → ((v1 = -1 ∧ C0 = xrm) ∨ ∃ s, s < n ∧ v1 = nI (ord s) ∧ C0 = zb_1 s) → wX_run_64 (fun r u' => wpY_run (fun r' v' => r' = r ∧ i_Rel k u' v') (nI L, nI D, nI IL, nI B, nI n, nI m, nI o, nI q, nI (zb_ls xrm).length, ybc, ylc, yord, ypar, ylab, ycell, yit, yres, ybn, ybcell, ylist, ycur, ynext, yholds) v1) C0 (nI L) (nI D) (nI IL) (nI B) (nI n) xu xbl (nI m) (nI o) (nI hh) (nI q) (nI po) xrm (nI (zb_ls xrm).length) xord xrk xpar xlab xlev xsz xlm xvm xbn xbb xbv xbs xlin xgl xgv xgs xgst xpc xpn xpm xoa xsat := by
        intro C0 hC0 hs
        refine zx_run64 T X (by omega) P Q fun S hE => ?_
        have Hf := zp_fwn (q := q) (lab := lab) (sz := sz) (pr := pr) (code := code) (nest := nest) (S := S) (lv := 0) (lo := 0) (show n ≤ 32 by omega) hC0 q
        have y43 : ∃ f, wY_run_43 (fun r' v' => r' = nI (zb_ls (zp_fw (zp_F n q lab sz pr code nest S 0) 0 q C0)).length ∧ i_Rel k (nI L, nI D, nI IL, nI B, nI n, xu, xbl, nI m, nI o, nI hh, nI q, nI po, zp_fw (zp_F n q lab sz pr code nest S 0) 0 q C0, nI (zb_ls (zp_fw (zp_F n q lab sz pr code nest S 0) 0 q C0)).length, xord, xrk, xpar, xlab, xlev, xsz, xlm, xvm, xbn, xbb, xbv, xbs, xlin, xgl, xgv, xgs, xgst, xpc, xpn, xpm, xoa, S) v') v1 f (nI q + (-1)) (nI L) (nI D) (nI IL) (nI B) (nI n) (nI m) (nI o) (nI q) (nI (zb_ls xrm).length) ybc ylc yord ypar ylab ycell yit yres ybn ybcell ylist ycur ynext yholds := by
          refine zy_run43 T Y (by omega) P I hE hcl M1 M2 hs fun lc A' Cu Nx Ho Rs hRs => ⟨rfl, ?_⟩
          exact zr_in h0 ⟨ord, lev, lab, sz, pr, T, U, X, Y, Hf, hRs⟩ h2 h3'
        unfold wpY_run
        refine br_f e0 (un _ (br_t ep ?_))
        have es : nI q - 1 = nI q + (-1) := Int32.sub_eq_add_neg _ _
        rcases hs with ⟨s1, s2⟩ | ⟨s, s1, s2, s3⟩
        · exact br_t s1 (nm_r es y43)
        · have os := T.2.2.2.1 s s1
          have ne : ¬ v1 = -1 := fun e => by
            rw [s2] at e
            have : nI (ord s) < 0 := by rw [e]; decide
            exact nI_pos (by omega) this
          refine br_f ne ?_
          rw [s2] at y43 ⊢
          exact zy_rank1 T Y.1 s1 (br_t (nI_pos' (by omega)) (nm_r es y43))
      by_cases c : v1 = -1
      · refine br_t c ?_
        unfold wX_run_30 wX_run_46
        exact br_f (by decide) (br_f (by decide) (go xrm M1 (Or.inl ⟨c, rfl⟩)))
      · refine br_f c ?_
        unfold wX_run_30 wX_run_46
        refine br_t rfl ?_
        by_cases lv : zr_lv n ord v1
        · obtain ⟨s, hs, es⟩ := lv
          have os := T.2.2.2.1 s hs
          have cs : (nI (ord s)).toNatClampNeg = ord s := nI_clamp (by omega)
          have g := go (zb_1 s) (fun y hy => by
            have h32 : y < 32 := (zb_mem.mp (zb_mem'.mpr hy)).1
            rw [zb_1b (by omega) h32] at hy
            rw [of_decide_eq_true hy]; exact hs) (Or.inr ⟨s, hs, es, rfl⟩)
          rw [es] at g ⊢
          refine zx_live1 T U hs (br_f (by decide) (br_t rfl ⟨vp_in_nI (by omega) (by omega), nm_r (e' := zb_1 s) (by rw [cs, (X.1 s hs).2]; rfl) g⟩))
        · refine zx_live0 T U lv (br_t rfl ?_)
          unfold wpY_run
          exact br_f e0 (un _ (br_t ep (br_f c (zy_rank0 T Y.1 lv (br_f (by decide) ⟨rfl, R⟩)))))
    · have ep : ¬ nI po ≤ 0 := nI_nle p0 (by omega)
      refine br_f ep ?_
      unfold wpY_run
      exact br_f e0 (un _ (br_f ep ⟨rfl, R⟩))
end
end
section
/-! ===== what is owed ===== -/
theorem i_up {k : Nat} {u : SX} {v : SY} (h : i_Rel k u v) : i_Rel (k + 4) u v := h
theorem i_vc0 (k0 : Int32) (k1 : Int32) (k2 : Int32) (k3 : Int32) : wpX_init (fun u => wpY_init (fun v => i_Rel 4 u v) k0 k1 k2 k3) k0 k1 k2 k3 := zv_init k0 k1 k2 k3
theorem i_vc_open {k : Nat} {u : SX} {v : SY} (I : i_Rel k u v) (hk : k + 4 ≤ 2052) (v1 : Int32) : wpX_open (fun r u' => wpY_open (fun r' v' => r' = r ∧ i_Rel (k + 4) u' v') v v1) u v1 := by
  refine zr_el (P := fun u v => wpX_open (fun r u' => wpY_open (fun r' v' => r' = r ∧ i_Rel (k + 4) u' v') v v1) u v1) ?_ I
  intro L D IL B n m o hh q po xu xbl xrm xord xrk xpar xlab xlev xsz xlm xvm xbn xbb xbv xbs xlin xgl xgv xgs xgst xpc xpn xpm xoa xsat ybc ylc yord ypar ylab ycell yit yres ybn ybcell ylist ycur ynext yholds h0 h1 h2 h3
  exact zv_open h0 h1 h2 h3 v1
theorem i_vc_close {k : Nat} {u : SX} {v : SY} (I : i_Rel k u v) (hk : k + 4 ≤ 2052) : wpX_close (fun r u' => wpY_close (fun r' v' => r' = r ∧ i_Rel (k + 4) u' v') v) u := by
  refine zr_el (P := fun u v => wpX_close (fun r u' => wpY_close (fun r' v' => r' = r ∧ i_Rel (k + 4) u' v') v) u) ?_ I
  intro L D IL B n m o hh q po xu xbl xrm xord xrk xpar xlab xlev xsz xlm xvm xbn xbb xbv xbs xlin xgl xgv xgs xgst xpc xpn xpm xoa xsat ybc ylc yord ypar ylab ycell yit yres ybn ybcell ylist ycur ynext yholds h0 h1 h2 h3
  exact zv_close h0 h1 h2 h3
theorem i_vc_discard {k : Nat} {u : SX} {v : SY} (I : i_Rel k u v) (hk : k + 4 ≤ 2052) : wpX_discard (fun r u' => wpY_discard (fun r' v' => r' = r ∧ i_Rel (k + 4) u' v') v) u := by
  refine zr_el (P := fun u v => wpX_discard (fun r u' => wpY_discard (fun r' v' => r' = r ∧ i_Rel (k + 4) u' v') v) u) ?_ I
  intro L D IL B n m o hh q po xu xbl xrm xord xrk xpar xlab xlev xsz xlm xvm xbn xbb xbv xbs xlin xgl xgv xgs xgst xpc xpn xpm xoa xsat ybc ylc yord ypar ylab ycell yit yres ybn ybcell ylist ycur ynext yholds h0 h1 h2 h3
  exact zv_discard h0 h1 h2 h3
theorem i_vc_insert {k : Nat} {u : SX} {v : SY} (I : i_Rel k u v) (hk : k + 4 ≤ 2052) (v1 : Int32) (v2 : Int32) : wpX_insert (fun r u' => wpY_insert (fun r' v' => r' = r ∧ i_Rel (k + 4) u' v') v v1 v2) u v1 v2 := by
  refine zr_el (P := fun u v => wpX_insert (fun r u' => wpY_insert (fun r' v' => r' = r ∧ i_Rel (k + 4) u' v') v v1 v2) u v1 v2) ?_ I
  intro L D IL B n m o hh q po xu xbl xrm xord xrk xpar xlab xlev xsz xlm xvm xbn xbb xbv xbs xlin xgl xgv xgs xgst xpc xpn xpm xoa xsat ybc ylc yord ypar ylab ycell yit yres ybn ybcell ylist ycur ynext yholds h0 h1 h2 h3
  exact zv_insert h0 h1 h2 h3 v1 v2
theorem i_vc_delete {k : Nat} {u : SX} {v : SY} (I : i_Rel k u v) (hk : k + 4 ≤ 2052) (v1 : Int32) : wpX_delete (fun r u' => wpY_delete (fun r' v' => r' = r ∧ i_Rel (k + 4) u' v') v v1) u v1 := by
  refine zr_el (P := fun u v => wpX_delete (fun r u' => wpY_delete (fun r' v' => r' = r ∧ i_Rel (k + 4) u' v') v v1) u v1) ?_ I
  intro L D IL B n m o hh q po xu xbl xrm xord xrk xpar xlab xlev xsz xlm xvm xbn xbb xbv xbs xlin xgl xgv xgs xgst xpc xpn xpm xoa xsat ybc ylc yord ypar ylab ycell yit yres ybn ybcell ylist ycur ynext yholds h0 h1 h2 h3
  exact zv_delete h0 h1 h2 h3 v1
theorem i_vc_move {k : Nat} {u : SX} {v : SY} (I : i_Rel k u v) (hk : k + 4 ≤ 2052) (v1 : Int32) (v2 : Int32) (v3 : Int32) : wpX_move (fun r u' => wpY_move (fun r' v' => r' = r ∧ i_Rel (k + 4) u' v') v v1 v2 v3) u v1 v2 v3 := by
  refine zr_el (P := fun u v => wpX_move (fun r u' => wpY_move (fun r' v' => r' = r ∧ i_Rel (k + 4) u' v') v v1 v2 v3) u v1 v2 v3) ?_ I
  intro L D IL B n m o hh q po xu xbl xrm xord xrk xpar xlab xlev xsz xlm xvm xbn xbb xbv xbs xlin xgl xgv xgs xgst xpc xpn xpm xoa xsat ybc ylc yord ypar ylab ycell yit yres ybn ybcell ylist ycur ynext yholds h0 h1 h2 h3
  exact zv_move h0 h1 h2 h3 v1 v2 v3
theorem i_vc_copy {k : Nat} {u : SX} {v : SY} (I : i_Rel k u v) (hk : k + 4 ≤ 2052) (v1 : Int32) (v2 : Int32) (v3 : Int32) : wpX_copy (fun r u' => wpY_copy (fun r' v' => r' = r ∧ i_Rel (k + 4) u' v') v v1 v2 v3) u v1 v2 v3 := by
  refine zr_el (P := fun u v => wpX_copy (fun r u' => wpY_copy (fun r' v' => r' = r ∧ i_Rel (k + 4) u' v') v v1 v2 v3) u v1 v2 v3) ?_ I
  intro L D IL B n m o hh q po xu xbl xrm xord xrk xpar xlab xlev xsz xlm xvm xbn xbb xbv xbs xlin xgl xgv xgs xgst xpc xpn xpm xoa xsat ybc ylc yord ypar ylab ycell yit yres ybn ybcell ylist ycur ynext yholds h0 h1 h2 h3
  exact zv_copy h0 h1 h2 h3 v1 v2 v3
theorem i_vc_relabel {k : Nat} {u : SX} {v : SY} (I : i_Rel k u v) (hk : k + 4 ≤ 2052) (v1 : Int32) (v2 : Int32) : wpX_relabel (fun r u' => wpY_relabel (fun r' v' => r' = r ∧ i_Rel (k + 4) u' v') v v1 v2) u v1 v2 := by
  refine zr_el (P := fun u v => wpX_relabel (fun r u' => wpY_relabel (fun r' v' => r' = r ∧ i_Rel (k + 4) u' v') v v1 v2) u v1 v2) ?_ I
  intro L D IL B n m o hh q po xu xbl xrm xord xrk xpar xlab xlev xsz xlm xvm xbn xbb xbv xbs xlin xgl xgv xgs xgst xpc xpn xpm xoa xsat ybc ylc yord ypar ylab ycell yit yres ybn ybcell ylist ycur ynext yholds h0 h1 h2 h3
  exact zv_relabel h0 h1 h2 h3 v1 v2
theorem i_vc_step {k : Nat} {u : SX} {v : SY} (I : i_Rel k u v) (hk : k + 4 ≤ 2052) (v1 : Int32) (v2 : Int32) : wpX_step (fun r u' => wpY_step (fun r' v' => r' = r ∧ i_Rel (k + 4) u' v') v v1 v2) u v1 v2 := by
  refine zr_el (P := fun u v => wpX_step (fun r u' => wpY_step (fun r' v' => r' = r ∧ i_Rel (k + 4) u' v') v v1 v2) u v1 v2) ?_ I
  intro L D IL B n m o hh q po xu xbl xrm xord xrk xpar xlab xlev xsz xlm xvm xbn xbb xbv xbs xlin xgl xgv xgs xgst xpc xpn xpm xoa xsat ybc ylc yord ypar ylab ycell yit yres ybn ybcell ylist ycur ynext yholds h0 h1 h2 h3
  exact zv_step h0 h1 h2 h3 v1 v2
theorem i_vc_position {k : Nat} {u : SX} {v : SY} (I : i_Rel k u v) (hk : k + 4 ≤ 2052) (v1 : Int32) : wpX_position (fun r u' => wpY_position (fun r' v' => r' = r ∧ i_Rel (k + 4) u' v') v v1) u v1 := by
  refine zr_el (P := fun u v => wpX_position (fun r u' => wpY_position (fun r' v' => r' = r ∧ i_Rel (k + 4) u' v') v v1) u v1) ?_ I
  intro L D IL B n m o hh q po xu xbl xrm xord xrk xpar xlab xlev xsz xlm xvm xbn xbb xbv xbs xlin xgl xgv xgs xgst xpc xpn xpm xoa xsat ybc ylc yord ypar ylab ycell yit yres ybn ybcell ylist ycur ynext yholds h0 h1 h2 h3
  exact zv_position h0 h1 h2 h3 v1
theorem i_vc_openPredicate {k : Nat} {u : SX} {v : SY} (I : i_Rel k u v) (hk : k + 4 ≤ 2052) (v1 : Int32) : wpX_openPredicate (fun r u' => wpY_openPredicate (fun r' v' => r' = r ∧ i_Rel (k + 4) u' v') v (lw_bz v1)) u (lw_bz v1) := by
  refine zr_el (P := fun u v => wpX_openPredicate (fun r u' => wpY_openPredicate (fun r' v' => r' = r ∧ i_Rel (k + 4) u' v') v (lw_bz v1)) u (lw_bz v1)) ?_ I
  intro L D IL B n m o hh q po xu xbl xrm xord xrk xpar xlab xlev xsz xlm xvm xbn xbb xbv xbs xlin xgl xgv xgs xgst xpc xpn xpm xoa xsat ybc ylc yord ypar ylab ycell yit yres ybn ybcell ylist ycur ynext yholds h0 h1 h2 h3
  exact zv_openPredicate h0 h1 h2 h3 v1
theorem i_vc_closePredicate {k : Nat} {u : SX} {v : SY} (I : i_Rel k u v) (hk : k + 4 ≤ 2052) : wpX_closePredicate (fun r u' => wpY_closePredicate (fun r' v' => r' = r ∧ i_Rel (k + 4) u' v') v) u := by
  refine zr_el (P := fun u v => wpX_closePredicate (fun r u' => wpY_closePredicate (fun r' v' => r' = r ∧ i_Rel (k + 4) u' v') v) u) ?_ I
  intro L D IL B n m o hh q po xu xbl xrm xord xrk xpar xlab xlev xsz xlm xvm xbn xbb xbv xbs xlin xgl xgv xgs xgst xpc xpn xpm xoa xsat ybc ylc yord ypar ylab ycell yit yres ybn ybcell ylist ycur ynext yholds h0 h1 h2 h3
  exact zv_closePredicate h0 h1 h2 h3
theorem i_vc_clearPath {k : Nat} {u : SX} {v : SY} (I : i_Rel k u v) (hk : k + 4 ≤ 2052) : wpX_clearPath (fun r u' => wpY_clearPath (fun r' v' => r' = r ∧ i_Rel (k + 4) u' v') v) u := by
  refine zr_el (P := fun u v => wpX_clearPath (fun r u' => wpY_clearPath (fun r' v' => r' = r ∧ i_Rel (k + 4) u' v') v) u) ?_ I
  intro L D IL B n m o hh q po xu xbl xrm xord xrk xpar xlab xlev xsz xlm xvm xbn xbb xbv xbs xlin xgl xgv xgs xgst xpc xpn xpm xoa xsat ybc ylc yord ypar ylab ycell yit yres ybn ybcell ylist ycur ynext yholds h0 h1 h2 h3
  exact zv_clearPath h0 h1 h2 h3
theorem i_vc_run {k : Nat} {u : SX} {v : SY} (I : i_Rel k u v) (hk : k + 4 ≤ 2052) (v1 : Int32) : wpX_run (fun r u' => wpY_run (fun r' v' => r' = r ∧ i_Rel (k + 4) u' v') v v1) u v1 := by
  refine zr_el (P := fun u v => wpX_run (fun r u' => wpY_run (fun r' v' => r' = r ∧ i_Rel (k + 4) u' v') v v1) u v1) ?_ I
  intro L D IL B n m o hh q po xu xbl xrm xord xrk xpar xlab xlev xsz xlm xvm xbn xbb xbv xbs xlin xgl xgv xgs xgst xpc xpn xpm xoa xsat ybc ylc yord ypar ylab ycell yit yres ybn ybcell ylist ycur ynext yholds h0 h1 h2 h3
  exact zv_run h0 h1 h2 h3 v1
theorem i_vc_count {k : Nat} {u : SX} {v : SY} (I : i_Rel k u v) (hk : k + 4 ≤ 2052) (v1 : Int32) : wpX_count (fun r => wpY_count (fun r' => r' = r ∧ i_Rel (k + 4) u v) v v1) u v1 := by
  refine zr_el (P := fun u v => wpX_count (fun r => wpY_count (fun r' => r' = r ∧ i_Rel (k + 4) u v) v v1) u v1) ?_ I
  intro L D IL B n m o hh q po xu xbl xrm xord xrk xpar xlab xlev xsz xlm xvm xbn xbb xbv xbs xlin xgl xgv xgs xgst xpc xpn xpm xoa xsat ybc ylc yord ypar ylab ycell yit yres ybn ybcell ylist ycur ynext yholds h0 h1 h2 h3
  exact zv_count h0 h1 h2 h3 v1
theorem i_vc_nodeAt {k : Nat} {u : SX} {v : SY} (I : i_Rel k u v) (hk : k + 4 ≤ 2052) (v1 : Int32) : wpX_nodeAt (fun r => wpY_nodeAt (fun r' => r' = r ∧ i_Rel (k + 4) u v) v v1) u v1 := by
  refine zr_el (P := fun u v => wpX_nodeAt (fun r => wpY_nodeAt (fun r' => r' = r ∧ i_Rel (k + 4) u v) v v1) u v1) ?_ I
  intro L D IL B n m o hh q po xu xbl xrm xord xrk xpar xlab xlev xsz xlm xvm xbn xbb xbv xbs xlin xgl xgv xgs xgst xpc xpn xpm xoa xsat ybc ylc yord ypar ylab ycell yit yres ybn ybcell ylist ycur ynext yholds h0 h1 h2 h3
  exact zv_nodeAt h0 h1 h2 h3 v1
theorem i_vc_nodeField {k : Nat} {u : SX} {v : SY} (I : i_Rel k u v) (hk : k + 4 ≤ 2052) (v1 : Int32) (v2 : Int32) : wpX_nodeField (fun r => wpY_nodeField (fun r' => r' = r ∧ i_Rel (k + 4) u v) v v1 v2) u v1 v2 := by
  refine zr_el (P := fun u v => wpX_nodeField (fun r => wpY_nodeField (fun r' => r' = r ∧ i_Rel (k + 4) u v) v v1 v2) u v1 v2) ?_ I
  intro L D IL B n m o hh q po xu xbl xrm xord xrk xpar xlab xlev xsz xlm xvm xbn xbb xbv xbs xlin xgl xgv xgs xgst xpc xpn xpm xoa xsat ybc ylc yord ypar ylab ycell yit yres ybn ybcell ylist ycur ynext yholds h0 h1 h2 h3
  exact zv_nodeField h0 h1 h2 h3 v1 v2
theorem i_vc_labelCount {k : Nat} {u : SX} {v : SY} (I : i_Rel k u v) (hk : k + 4 ≤ 2052) (v1 : Int32) : wpX_labelCount (fun r => wpY_labelCount (fun r' => r' = r ∧ i_Rel (k + 4) u v) v v1) u v1 := by
  refine zr_el (P := fun u v => wpX_labelCount (fun r => wpY_labelCount (fun r' => r' = r ∧ i_Rel (k + 4) u v) v v1) u v1) ?_ I
  intro L D IL B n m o hh q po xu xbl xrm xord xrk xpar xlab xlev xsz xlm xvm xbn xbb xbv xbs xlin xgl xgv xgs xgst xpc xpn xpm xoa xsat ybc ylc yord ypar ylab ycell yit yres ybn ybcell ylist ycur ynext yholds h0 h1 h2 h3
  exact zv_labelCount h0 h1 h2 h3 v1
theorem i_vc_labelNode {k : Nat} {u : SX} {v : SY} (I : i_Rel k u v) (hk : k + 4 ≤ 2052) (v1 : Int32) (v2 : Int32) : wpX_labelNode (fun r => wpY_labelNode (fun r' => r' = r ∧ i_Rel (k + 4) u v) v v1 v2) u v1 v2 := by
  refine zr_el (P := fun u v => wpX_labelNode (fun r => wpY_labelNode (fun r' => r' = r ∧ i_Rel (k + 4) u v) v v1 v2) u v1 v2) ?_ I
  intro L D IL B n m o hh q po xu xbl xrm xord xrk xpar xlab xlev xsz xlm xvm xbn xbb xbv xbs xlin xgl xgv xgs xgst xpc xpn xpm xoa xsat ybc ylc yord ypar ylab ycell yit yres ybn ybcell ylist ycur ynext yholds h0 h1 h2 h3
  exact zv_labelNode h0 h1 h2 h3 v1 v2
theorem i_vc_resultAt {k : Nat} {u : SX} {v : SY} (I : i_Rel k u v) (hk : k + 4 ≤ 2052) (v1 : Int32) : wpX_resultAt (fun r => wpY_resultAt (fun r' => r' = r ∧ i_Rel (k + 4) u v) v v1) u v1 := by
  refine zr_el (P := fun u v => wpX_resultAt (fun r => wpY_resultAt (fun r' => r' = r ∧ i_Rel (k + 4) u v) v v1) u v1) ?_ I
  intro L D IL B n m o hh q po xu xbl xrm xord xrk xpar xlab xlev xsz xlm xvm xbn xbb xbv xbs xlin xgl xgv xgs xgst xpc xpn xpm xoa xsat ybc ylc yord ypar ylab ycell yit yres ybn ybcell ylist ycur ynext yholds h0 h1 h2 h3
  exact zv_resultAt h0 h1 h2 h3 v1
theorem i_vc_fragmentCell {k : Nat} {u : SX} {v : SY} (I : i_Rel k u v) (hk : k + 4 ≤ 2052) (v1 : Int32) : wpX_fragmentCell (fun r => wpY_fragmentCell (fun r' => r' = r ∧ i_Rel (k + 4) u v) v v1) u v1 := by
  refine zr_el (P := fun u v => wpX_fragmentCell (fun r => wpY_fragmentCell (fun r' => r' = r ∧ i_Rel (k + 4) u v) v v1) u v1) ?_ I
  intro L D IL B n m o hh q po xu xbl xrm xord xrk xpar xlab xlev xsz xlm xvm xbn xbb xbv xbs xlin xgl xgv xgs xgst xpc xpn xpm xoa xsat ybc ylc yord ypar ylab ycell yit yres ybn ybcell ylist ycur ynext yholds h0 h1 h2 h3
  exact zv_fragmentCell h0 h1 h2 h3 v1
theorem i_vc_pathCell {k : Nat} {u : SX} {v : SY} (I : i_Rel k u v) (hk : k + 4 ≤ 2052) (v1 : Int32) : wpX_pathCell (fun r => wpY_pathCell (fun r' => r' = r ∧ i_Rel (k + 4) u v) v v1) u v1 := by
  refine zr_el (P := fun u v => wpX_pathCell (fun r => wpY_pathCell (fun r' => r' = r ∧ i_Rel (k + 4) u v) v v1) u v1) ?_ I
  intro L D IL B n m o hh q po xu xbl xrm xord xrk xpar xlab xlev xsz xlm xvm xbn xbb xbv xbs xlin xgl xgv xgs xgst xpc xpn xpm xoa xsat ybc ylc yord ypar ylab ycell yit yres ybn ybcell ylist ycur ynext yholds h0 h1 h2 h3
  exact zv_pathCell h0 h1 h2 h3 v1
end
