section
/-! rows pasted out of the kit (starting text): pk_ rows, sb_negT, the family bt -/
theorem pk_us {f : Nat → Int32} {k : Nat} {x : Int32} : upd f k x k = x := if_pos rfl
theorem pk_un {f : Nat → Int32} {k j : Nat} {x : Int32} (h : j ≠ k) : upd f k x j = f j := if_neg h
theorem pk_uLs {f : Nat → Int64} {k : Nat} {x : Int64} : vp_updL f k x k = x := if_pos rfl
theorem pk_uLn {f : Nat → Int64} {k j : Nat} {x : Int64} (h : j ≠ k) : vp_updL f k x j = f j := if_neg h
theorem pk_sub {a b : Nat} (h : b ≤ a) : nI a - nI b = nI (a - b) := by
  obtain ⟨c, rfl⟩ : ∃ c, a = c + b := ⟨a - b, by omega⟩
  rw [← nI_add, Int32.add_sub_cancel, Nat.add_sub_cancel]
theorem pk_m1 (n : Nat) : nI (n + 1) + (-1) = nI n := by
  rw [← nI_1, Int32.add_assoc, show (1 : Int32) + (-1) = 0 from rfl, Int32.add_zero]
theorem pk_mul (a b : Nat) : nI a * nI b = nI (a * b) := (Int32.ofNat_mul a b).symm
theorem pk_div {a d : Nat} (ha : a < 2 ^ 31) (h0 : 0 < d) (hd : d < 2 ^ 31) : nI a / nI d = nI (a / d) := by
  apply Int32.toInt_inj.mp
  rw [lg_idiv_nonneg (by rw [nI_toInt ha]; omega) (by rw [nI_toInt hd]; omega), nI_toInt ha, nI_toInt hd, nI_toInt (Nat.lt_of_le_of_lt (Nat.div_le_self a d) ha)]
  first | rfl | exact (Int.natCast_ediv _ _).symm
theorem pk_rem {a d : Nat} (ha : a < 2 ^ 31) (h0 : 0 < d) (hd : d < 2 ^ 31) : nI a - nI a / nI d * nI d = nI (a % d) := by
  rw [pk_div ha h0 hd, pk_mul, pk_sub (Nat.div_mul_le_self a d)]
  exact congrArg nI (by have := Nat.div_add_mod' a d; omega)
theorem pk_sub_toInt {a b : Nat} (ha : a < 2 ^ 30) (hb : b < 2 ^ 30) : (nI a - nI b).toInt = (a : Int) - b := by
  rw [Int32.toInt_sub, nI_toInt (by omega), nI_toInt (by omega)]
  exact Int.bmod_eq_of_le (by omega) (by omega)
theorem pk_sneg {a b : Nat} (hb : b < 2 ^ 30) (h : a < b) : nI a - nI b < 0 := by
  rw [Int32.lt_iff_toInt_lt, pk_sub_toInt (by omega) hb, show (0 : Int32).toInt = 0 from by decide]
  omega
theorem pk_ix (x : Int32) {n : Nat} (hn : n < 2 ^ 31) : x < 0 ∨ nI n ≤ x ∨ ∃ j : Nat, j < n ∧ x = nI j := by
  by_cases h : x < 0
  · exact Or.inl h
  · obtain ⟨j, hj, rfl⟩ := nI_of h
    by_cases h2 : j < n
    · exact Or.inr (Or.inr ⟨j, h2, rfl⟩)
    · exact Or.inr (Or.inl (nI_le (by omega) hj))
theorem pk_le {x y : Int32} {A B : Prop} (a b : Nat) (f : a ≤ b → A) (g : b < a → B) (hx : x = nI a := by rfl) (hy : y = nI b := by rfl) (ha : a < 2 ^ 31 := by omega) (hb : b < 2 ^ 31 := by omega) : (x ≤ y → A) ∧ (¬ x ≤ y → B) := by
  subst hx hy
  rw [nI_leI ha hb]
  exact ⟨f, fun z => g (by omega)⟩
theorem pk_lt {x y : Int32} {A B : Prop} (a b : Nat) (f : a < b → A) (g : b ≤ a → B) (hx : x = nI a := by rfl) (hy : y = nI b := by rfl) (ha : a < 2 ^ 31 := by omega) (hb : b < 2 ^ 31 := by omega) : (x < y → A) ∧ (¬ x < y → B) := by
  subst hx hy
  rw [nI_ltI ha hb]
  exact ⟨f, fun z => g (by omega)⟩
theorem pk_eq {x y : Int32} {A B : Prop} (a b : Nat) (f : a = b → A) (g : a ≠ b → B) (hx : x = nI a := by rfl) (hy : y = nI b := by rfl) (ha : a < 2 ^ 31 := by omega) (hb : b < 2 ^ 31 := by omega) : (x = y → A) ∧ (¬ x = y → B) := by
  subst hx hy
  rw [nI_eq ha hb]
  exact ⟨f, g⟩
theorem pk_in {x : Int32} (n N : Nat) (h : n < N) (hx : x = nI n := by rfl) (hN : N < 2 ^ 31 := by omega) : vp_in x N := by
  subst hx
  exact vp_in_nI h hN
theorem pk_cl {x : Int32} (n : Nat) (hx : x = nI n := by rfl) (h : n < 2 ^ 31 := by omega) : x.toNatClampNeg = n := by
  subst hx
  exact nI_clamp h
theorem pk_tn {n : Nat} (h : n < 2 ^ 32) : (nI n).toBitVec.toNat = n := Nat.mod_eq_of_lt h
theorem pk_and (x : Int32) {m : Int32} (k : Nat) (hm : m.toBitVec.toNat = 2 ^ k - 1) : x &&& m = nI (x.toBitVec.toNat % 2 ^ k) := by
  apply Int32.toBitVec_inj.mp
  apply BitVec.eq_of_toNat_eq
  rw [Int32.toBitVec_and, BitVec.toNat_and, hm, Nat.and_two_pow_sub_one_eq_mod]
  show _ = (BitVec.ofNat 32 _).toNat
  rw [BitVec.toNat_ofNat]
  exact (Nat.mod_eq_of_lt (Nat.lt_of_le_of_lt (Nat.mod_le _ _) x.toBitVec.isLt)).symm
theorem pk_andN {n : Nat} (h : n < 2 ^ 32) {m : Int32} (k : Nat) (hm : m.toBitVec.toNat = 2 ^ k - 1) : nI n &&& m = nI (n % 2 ^ k) := by
  rw [pk_and _ k hm, pk_tn h]
theorem pk_andE (x : Int32) {m : Int32} (k : Nat) (hm : m.toBitVec.toNat = 2 ^ k - 1) : ∃ j : Nat, j < 2 ^ k ∧ x &&& m = nI j := ⟨_, Nat.mod_lt _ (Nat.two_pow_pos k), pk_and x k hm⟩
theorem pk_andIn (x : Int32) {m : Int32} (k : Nat) (hm : m.toBitVec.toNat = 2 ^ k - 1) (hk : k ≤ 30) : vp_in (x &&& m) (2 ^ k) := by
  obtain ⟨j, hj, e⟩ := pk_andE x k hm
  rw [e]
  exact vp_in_nI hj (Nat.lt_of_le_of_lt (Nat.pow_le_pow_right (by decide) hk) (by decide))
theorem pk_shl (a s : Int32) (k : Nat) (hs : (s.toBitVec.smod 32).toNat = k) : (a <<< s).toBitVec.toNat = a.toBitVec.toNat * 2 ^ k % 2 ^ 32 := by
  show (a.toBitVec <<< (s.toBitVec.smod 32).toNat).toNat = _
  rw [hs, BitVec.toNat_shiftLeft, Nat.shiftLeft_eq]
theorem pk_shlN {n : Nat} (s : Int32) (k : Nat) (hs : (s.toBitVec.smod 32).toNat = k) (h : n * 2 ^ k < 2 ^ 32) : nI n <<< s = nI (n * 2 ^ k) := by
  apply Int32.toBitVec_inj.mp
  apply BitVec.eq_of_toNat_eq
  have hn : n < 2 ^ 32 := Nat.lt_of_le_of_lt (Nat.le_mul_of_pos_right n (Nat.two_pow_pos k)) h
  rw [pk_shl _ _ k hs, pk_tn hn, pk_tn h, Nat.mod_eq_of_lt h]
theorem pk_shr (a s : Int32) (k : Nat) (hs : (s.toBitVec.smod 32).toNat = k) : (a >>> s).toInt = a.toInt >>> k := by
  show (a.toBitVec.sshiftRight (s.toBitVec.smod 32).toNat).toInt = _
  rw [hs, BitVec.toInt_sshiftRight]
  rfl
theorem pk_shrN {n : Nat} (h : n < 2 ^ 31) (s : Int32) (k : Nat) (hs : (s.toBitVec.smod 32).toNat = k) : nI n >>> s = nI (n / 2 ^ k) := by
  apply Int32.toInt_inj.mp
  have h2 : n / 2 ^ k ≤ n := Nat.div_le_self _ _
  rw [pk_shr _ _ k hs, nI_toInt h, nI_toInt (by omega), Int.shiftRight_eq_div_pow]
  rfl
theorem pk_ushr (x s : Int32) (k : Nat) (hs : ((s.toUInt32 &&& Int32.toUInt32 31).toBitVec % 32).toNat = k) : (x.toUInt32 >>> (s.toUInt32 &&& Int32.toUInt32 31)).toInt32.toBitVec.toNat = x.toBitVec.toNat / 2 ^ k := by
  have e : (x.toUInt32 >>> (s.toUInt32 &&& Int32.toUInt32 31)).toInt32.toBitVec = x.toBitVec >>> k := by
    rw [← hs]
    exact UInt32.toBitVec_shiftRight _ _
  rw [e, BitVec.toNat_ushiftRight, Nat.shiftRight_eq_div_pow]
theorem pk_ushrN {n : Nat} (hn : n < 2 ^ 32) (s : Int32) (k : Nat) (hs : ((s.toUInt32 &&& Int32.toUInt32 31).toBitVec % 32).toNat = k) : ((nI n).toUInt32 >>> (s.toUInt32 &&& Int32.toUInt32 31)).toInt32 = nI (n / 2 ^ k) := by
  apply Int32.toBitVec_inj.mp
  apply BitVec.eq_of_toNat_eq
  rw [pk_ushr _ s k hs, pk_tn hn, pk_tn (Nat.lt_of_le_of_lt (Nat.div_le_self _ _) hn)]
theorem sb_negT {w : Nat} (h : w < 2 ^ 31) : (-nI w).toInt = -(w : Int) := by
  rw [Int32.toInt_neg, nI_toInt h]
  exact Int.bmod_eq_of_le (by omega) (by omega)
/-! ===== Int32 by its bits: bt x i ===== -/
def bt (x : Int32) (i : Nat) : Bool := x.toBitVec.getLsbD i
theorem b_ext {x y : Int32} (h : ∀ i, i < 32 → bt x i = bt y i) : x = y := Int32.toBitVec_inj.mp (BitVec.eq_of_getLsbD_eq (fun i hi => h i hi))
theorem b_or (x y : Int32) (i : Nat) : bt (x ||| y) i = (bt x i || bt y i) := by unfold bt; rw [Int32.toBitVec_or, BitVec.getLsbD_or]
theorem b_and (x y : Int32) (i : Nat) : bt (x &&& y) i = (bt x i && bt y i) := by unfold bt; rw [Int32.toBitVec_and, BitVec.getLsbD_and]
theorem b_xor (x y : Int32) (i : Nat) : bt (x ^^^ y) i = (bt x i ^^ bt y i) := by unfold bt; rw [Int32.toBitVec_xor, BitVec.getLsbD_xor]
theorem b_big {x : Int32} {i : Nat} (h : 32 ≤ i) : bt x i = false := BitVec.getLsbD_of_ge _ _ h
theorem b_255 (i : Nat) : bt 255 i = decide (i < 8) := by
  rcases Nat.lt_or_ge i 32 with h | h
  · exact (by decide +kernel : ∀ i, i < 32 → bt 255 i = decide (i < 8)) i h
  · rw [b_big h, decide_eq_false (by omega)]
theorem b_65535 (i : Nat) : bt 65535 i = decide (i < 16) := by
  rcases Nat.lt_or_ge i 32 with h | h
  · exact (by decide +kernel : ∀ i, i < 32 → bt 65535 i = decide (i < 16)) i h
  · rw [b_big h, decide_eq_false (by omega)]
theorem b_m1 : ∀ i, i < 32 → bt (-1) i = true := by decide +kernel
theorem b_0 (i : Nat) : bt 0 i = false := BitVec.getLsbD_zero
theorem s_l : ∀ n, n < 32 → ((nI n &&& 31).toBitVec.smod 32).toNat = n := by decide +kernel
theorem s_u : ∀ n, n < 32 → (((nI n).toUInt32 &&& Int32.toUInt32 31).toBitVec % 32).toNat = n := by decide +kernel
theorem b_shl (n : Nat) (hn : n < 32) (x : Int32) {i : Nat} (hi : i < 32) : bt (x <<< (nI n &&& 31)) i = (decide (n ≤ i) && bt x (i - n)) := by
  unfold bt
  rw [Int32.toBitVec_shiftLeft]
  show (x.toBitVec <<< ((nI n &&& 31).toBitVec.smod 32).toNat).getLsbD i = _
  rw [s_l n hn, BitVec.getLsbD_shiftLeft]
  rcases Nat.lt_or_ge i n with h | h
  · simp [h, Nat.not_le.mpr h]
  · simp [hi, h, Nat.not_lt.mpr h]
theorem b_ushr (n : Nat) (hn : n < 32) (x : Int32) (i : Nat) : bt ((x.toUInt32 >>> ((nI n).toUInt32 &&& Int32.toUInt32 31)).toInt32) i = bt x (n + i) := by
  show (x.toUInt32 >>> ((nI n).toUInt32 &&& Int32.toUInt32 31)).toBitVec.getLsbD i = x.toUInt32.toBitVec.getLsbD (n + i)
  rw [UInt32.toBitVec_shiftRight]
  show (x.toUInt32.toBitVec >>> (((nI n).toUInt32 &&& Int32.toUInt32 31).toBitVec % 32).toNat).getLsbD i = _
  rw [s_u n hn, BitVec.getLsbD_ushiftRight]
theorem b_sshr (n : Nat) (hn : n < 32) (x : Int32) {i : Nat} (hi : i < 32) : bt (x >>> (nI n &&& 31)) i = if n + i < 32 then bt x (n + i) else bt x 31 := by
  unfold bt
  rw [Int32.toBitVec_shiftRight]
  show (x.toBitVec.sshiftRight ((nI n &&& 31).toBitVec.smod 32).toNat).getLsbD i = _
  rw [s_l n hn, BitVec.getLsbD_sshiftRight, BitVec.msb_eq_getLsbD_last]
  simp [hi]
theorem b_shl8 (x : Int32) {i : Nat} (hi : i < 32) : bt (x <<< ((8 : Int32) &&& 31)) i = (decide (8 ≤ i) && bt x (i - 8)) := b_shl 8 (by omega) x hi
theorem b_shl16 (x : Int32) {i : Nat} (hi : i < 32) : bt (x <<< ((16 : Int32) &&& 31)) i = (decide (16 ≤ i) && bt x (i - 16)) := b_shl 16 (by omega) x hi
theorem b_shl24 (x : Int32) {i : Nat} (hi : i < 32) : bt (x <<< ((24 : Int32) &&& 31)) i = (decide (24 ≤ i) && bt x (i - 24)) := b_shl 24 (by omega) x hi
theorem b_sshr8 (x : Int32) {i : Nat} (hi : i < 32) : bt (x >>> ((8 : Int32) &&& 31)) i = if 8 + i < 32 then bt x (8 + i) else bt x 31 := b_sshr 8 (by omega) x hi
/-! ===== nI under and, xor, >>>, one bit, 65535 ===== -/
theorem nx_and (a b : Nat) : nI a &&& nI b = nI (a &&& b) := by
  apply Int32.toBitVec_inj.1
  show BitVec.ofNat 32 a &&& BitVec.ofNat 32 b = BitVec.ofNat 32 (a &&& b)
  apply BitVec.eq_of_getLsbD_eq
  intro i hi
  simp [hi]
theorem nx_xor (a b : Nat) : nI a ^^^ nI b = nI (a ^^^ b) := by
  apply Int32.toBitVec_inj.1
  show BitVec.ofNat 32 a ^^^ BitVec.ofNat 32 b = BitVec.ofNat 32 (a ^^^ b)
  apply BitVec.eq_of_getLsbD_eq
  intro i hi
  simp [hi]
theorem nx_cnt : ∀ j : Fin 32, (UInt32.ofNat j.val &&& Int32.toUInt32 31).toNat % 32 = j.val := by decide +kernel
end
section
/-! bits in byte arrays, lists of bits, numbers written in bits -/
theorem nx_or (a b : Nat) : nI a ||| nI b = nI (a ||| b) := by
  apply Int32.toBitVec_inj.1
  show BitVec.ofNat 32 a ||| BitVec.ofNat 32 b = BitVec.ofNat 32 (a ||| b)
  apply BitVec.eq_of_getLsbD_eq
  intro i hi
  simp [hi]
def sa_gb (a : Nat → Int32) (i : Nat) : Bool := bt (a (i / 8)) (i % 8)
def sa_mk (k : Nat) : Int32 := (1 : Int32) <<< (nI k &&& 31)
def sa_p1 (o : Nat → Int32) (p : Nat) (b : Bool) : Nat → Int32 :=
  upd o (p / 8) (bif b then o (p / 8) ||| sa_mk (p % 8) else o (p / 8) &&& (sa_mk (p % 8) ^^^ (-1)))
def sa_pL : List Bool → (Nat → Int32) → Nat → (Nat → Int32)
  | [], o, _ => o
  | b :: l, o, p => sa_pL l (sa_p1 o p b) (p + 1)
def sa_By (a : Nat → Int32) : Prop := ∀ j i, 8 ≤ i → bt (a j) i = false
theorem sa_bt1 : ∀ j, j < 32 → bt 1 j = decide (j = 0) := by decide +kernel
theorem sa_mk_b (k : Nat) (hk : k < 32) (i : Nat) (hi : i < 32) : bt (sa_mk k) i = decide (i = k) := by
  unfold sa_mk
  rw [b_shl k hk _ hi]
  rcases Nat.lt_or_ge i k with h | h
  · rw [decide_eq_false (by omega), decide_eq_false (by omega)]; rfl
  · rw [decide_eq_true h, sa_bt1 (i - k) (by omega)]
    by_cases e : i = k
    · rw [decide_eq_true e, decide_eq_true (by omega)]; rfl
    · rw [decide_eq_false e, decide_eq_false (by omega)]; rfl
theorem sa_gb_p1 (o : Nat → Int32) (p : Nat) (b : Bool) (i : Nat) : sa_gb (sa_p1 o p b) i = if i = p then b else sa_gb o i := by
  unfold sa_gb sa_p1
  by_cases hj : i / 8 = p / 8
  · rw [hj, pk_us]
    have hm : bt (sa_mk (p % 8)) (i % 8) = decide (i % 8 = p % 8) := sa_mk_b _ (by omega) _ (by omega)
    have h1 : bt (-1) (i % 8) = true := b_m1 _ (by omega)
    by_cases e : i = p
    · rw [if_pos e]
      have e2 : i % 8 = p % 8 := by rw [e]
      rw [decide_eq_true e2] at hm
      cases b
      · show bt (o (p / 8) &&& (sa_mk (p % 8) ^^^ (-1))) (i % 8) = false
        rw [b_and, b_xor, hm, h1]; simp
      · show bt (o (p / 8) ||| sa_mk (p % 8)) (i % 8) = true
        rw [b_or, hm]; simp
    · rw [if_neg e]
      have e2 : ¬ i % 8 = p % 8 := by omega
      rw [decide_eq_false e2] at hm
      cases b
      · show bt (o (p / 8) &&& (sa_mk (p % 8) ^^^ (-1))) (i % 8) = _
        rw [b_and, b_xor, hm, h1]; simp
      · show bt (o (p / 8) ||| sa_mk (p % 8)) (i % 8) = _
        rw [b_or, hm]; simp
  · rw [pk_un hj, if_neg (fun e => hj (by rw [e]))]
theorem sa_By_p1 {o : Nat → Int32} (h : sa_By o) (p : Nat) (b : Bool) : sa_By (sa_p1 o p b) := by
  intro j i hi
  unfold sa_p1
  by_cases hj : j = p / 8
  · rw [hj, pk_us]
    rcases Nat.lt_or_ge i 32 with h32 | h32
    · have hm : bt (sa_mk (p % 8)) i = false := by
        rw [sa_mk_b _ (by omega) _ h32, decide_eq_false (by omega)]
      cases b
      · show bt (o (p / 8) &&& (sa_mk (p % 8) ^^^ (-1))) i = false
        rw [b_and, h _ i hi]; rfl
      · show bt (o (p / 8) ||| sa_mk (p % 8)) i = false
        rw [b_or, h _ i hi, hm]; rfl
    · exact b_big h32
  · rw [pk_un hj]; exact h j i hi
theorem sa_By_pL : ∀ (l : List Bool) {o : Nat → Int32} (p : Nat), sa_By o → sa_By (sa_pL l o p)
  | [], _, _, h => h
  | b :: l, _, p, h => sa_By_pL l (p + 1) (sa_By_p1 h p b)
theorem sa_pL_lo : ∀ (l : List Bool) (o : Nat → Int32) (p i : Nat), i < p → sa_gb (sa_pL l o p) i = sa_gb o i
  | [], _, _, _, _ => rfl
  | b :: l, o, p, i, h => by
    show sa_gb (sa_pL l (sa_p1 o p b) (p + 1)) i = _
    rw [sa_pL_lo l _ _ _ (by omega), sa_gb_p1, if_neg (by omega)]
theorem sa_pL_app : ∀ (l m : List Bool) (o : Nat → Int32) (p : Nat), sa_pL (l ++ m) o p = sa_pL m (sa_pL l o p) (p + l.length)
  | [], _, _, _ => rfl
  | b :: l, m, o, p => by
    show sa_pL (l ++ m) (sa_p1 o p b) (p + 1) = sa_pL m (sa_pL l (sa_p1 o p b) (p + 1)) (p + (l.length + 1))
    rw [sa_pL_app l m, show p + 1 + l.length = p + (l.length + 1) from by omega]
def sa_Ho (g : Nat → Bool) : Nat → List Bool → Prop
  | _, [] => True
  | s, b :: l => g s = b ∧ sa_Ho g (s + 1) l
theorem sa_pL_ho : ∀ (l : List Bool) (o : Nat → Int32) (p : Nat), sa_Ho (sa_gb (sa_pL l o p)) p l
  | [], _, _ => trivial
  | b :: l, o, p => ⟨by
      show sa_gb (sa_pL l (sa_p1 o p b) (p + 1)) p = b
      rw [sa_pL_lo l _ _ _ (by omega), sa_gb_p1, if_pos rfl], sa_pL_ho l _ _⟩
theorem sa_Ho_app {g : Nat → Bool} : ∀ (l m : List Bool) (s : Nat), sa_Ho g s (l ++ m) ↔ sa_Ho g s l ∧ sa_Ho g (s + l.length) m
  | [], _, _ => ⟨fun h => ⟨trivial, h⟩, fun h => h.2⟩
  | b :: l, m, s => by
    have ih := sa_Ho_app (g := g) l m (s + 1)
    have e : s + (b :: l).length = s + 1 + l.length := by rw [List.length_cons]; omega
    rw [e]
    exact ⟨fun h => ⟨⟨h.1, (ih.mp h.2).1⟩, (ih.mp h.2).2⟩, fun h => ⟨h.1.1, ih.mpr ⟨h.1.2, h.2⟩⟩⟩
theorem sa_Ho_sh {g h : Nat → Bool} : ∀ (l : List Bool) (s t : Nat), (∀ i, i < l.length → g (s + i) = h (t + i)) → sa_Ho h t l → sa_Ho g s l
  | [], _, _, _, _ => trivial
  | b :: l, s, t, e, H => ⟨(e 0 (by rw [List.length_cons]; omega)).trans H.1, sa_Ho_sh l (s + 1) (t + 1) (fun i hi => by
      have := e (i + 1) (by rw [List.length_cons]; omega)
      rw [show s + 1 + i = s + (i + 1) from by omega, show t + 1 + i = t + (i + 1) from by omega]
      exact this) H.2⟩
def sa_rv : List Bool → Nat → Nat
  | [], a => a
  | b :: l, a => sa_rv l (2 * a + b.toNat)
def sa_bw (x : Int32) : Nat → List Bool
  | 0 => []
  | c + 1 => bt x c :: sa_bw x c
theorem sa_bw_len (x : Int32) : ∀ c, (sa_bw x c).length = c
  | 0 => rfl
  | c + 1 => by show (sa_bw x c).length + 1 = c + 1; rw [sa_bw_len x c]
theorem sa_bt_nat (x : Int32) (c : Nat) : (bt x c).toNat = x.toBitVec.toNat / 2 ^ c % 2 := by
  have e : bt x c = x.toBitVec.toNat.testBit c := rfl
  rw [e, Nat.testBit_eq_decide_div_mod_eq]
  rcases Nat.mod_two_eq_zero_or_one (x.toBitVec.toNat / 2 ^ c) with h | h <;> rw [h] <;> rfl
theorem sa_rv_bw (x : Int32) : ∀ c a, sa_rv (sa_bw x c) a = a * 2 ^ c + x.toBitVec.toNat % 2 ^ c
  | 0, a => by show a = _; rw [Nat.pow_zero, Nat.mod_one]; omega
  | c + 1, a => by
    show sa_rv (sa_bw x c) (2 * a + (bt x c).toNat) = _
    rw [sa_rv_bw x c, sa_bt_nat, Nat.mod_pow_succ, Nat.pow_succ, Nat.add_mul, Nat.mul_comm (x.toBitVec.toNat / 2 ^ c % 2), ← Nat.mul_assoc a, Nat.mul_comm 2 a, Nat.mul_right_comm a 2]
    omega
theorem sa_bit1 (x : Int32) {k : Nat} (hk : k < 32) : (x >>> (nI k &&& 31)) &&& 1 = nI (bt x k).toNat := by
  apply b_ext
  intro i hi
  rw [b_and, sa_bt1 i hi, b_sshr k hk x hi]
  by_cases e : i = 0
  · subst e
    rw [if_pos (by omega), Nat.add_zero]
    cases bt x k <;> decide
  · rw [decide_eq_false e, Bool.and_false]
    cases bt x k
    · exact (b_0 i).symm
    · exact (sa_bt1 i hi ▸ (decide_eq_false e).symm : false = bt 1 i)
/-! folded numbers -/
def sa_fo (x : Int32) : Nat := if 0 ≤ x.toInt then (2 * x.toInt).toNat else (-2 * x.toInt - 1).toNat
theorem sa_fo_bd {x : Int32} {B : Nat} (h : x.toInt.natAbs ≤ B) : sa_fo x ≤ 2 * B := by
  unfold sa_fo
  split <;> omega
def sa_eF (x : Int32) (lo : Nat) : List Bool := List.replicate (sa_fo x / 2 ^ lo) true ++ (false :: sa_bw (nI (sa_fo x)) lo)
theorem sa_eF_len (x : Int32) (lo : Nat) : (sa_eF x lo).length = sa_fo x / 2 ^ lo + 1 + lo := by
  unfold sa_eF
  rw [List.length_append, List.length_replicate, List.length_cons, sa_bw_len]
  omega
theorem sa_fo_nn {x : Int32} (h : 0 ≤ x.toInt) : ∃ j, x = nI j ∧ sa_fo x = 2 * j ∧ j < 2 ^ 31 := by
  have hb := x.toInt_lt
  refine ⟨x.toInt.toNat, Int32.toInt_inj.mp ?_, ?_, by omega⟩
  · rw [nI_toInt (by omega)]; omega
  · unfold sa_fo; rw [if_pos h]; omega
theorem sa_fo_ng {x : Int32} (h : ¬ 0 ≤ x.toInt) (hb : x.toInt.natAbs < 2 ^ 30) : ∃ j, x = -nI (j + 1) ∧ sa_fo x = 2 * j + 1 ∧ j < 2 ^ 30 := by
  refine ⟨(-x.toInt - 1).toNat, Int32.toInt_inj.mp ?_, ?_, by omega⟩
  · rw [sb_negT (by omega)]; omega
  · unfold sa_fo; rw [if_neg h]; omega
theorem sa_foldI {x : Int32} : (0 ≤ x) ↔ 0 ≤ x.toInt := by
  rw [Int32.le_iff_toInt_le]; exact Iff.rfl
theorem sa_folded {post : Int32 → Prop} {x : Int32} (hb : x.toInt.natAbs < 2 ^ 30) (H : post (nI (sa_fo x))) : wpX_folded post x := by
  refine br_c (fun h => ?_) (fun h => ?_)
  · obtain ⟨j, hj, hf, _⟩ := sa_fo_nn (sa_foldI.mp h)
    rw [hf, ← pk_mul, ← hj] at H
    exact H
  · obtain ⟨j, hj, hf, _⟩ := sa_fo_ng (fun z => h (sa_foldI.mpr z)) hb
    have e : (-2 : Int32) * x - 1 = nI (2 * j + 1) := by
      rw [hj, ← nI_1, ← nI_1, ← pk_mul]
      show (-2 : Int32) * -(nI j + 1) - 1 = (2 : Int32) * nI j + 1
      grind
    rw [hf, ← e] at H
    exact H
theorem sa_join (U lo : Nat) (h : U < 2 ^ 31) (hlo : lo < 32) : (nI (U / 2 ^ lo) <<< (nI lo &&& 31)) ||| nI (U % 2 ^ lo) = nI U := by
  have h1 : U / 2 ^ lo * 2 ^ lo ≤ U := Nat.div_mul_le_self _ _
  rw [pk_shlN _ lo (s_l lo hlo) (by omega), nx_or, Nat.mul_comm, ← Nat.two_pow_add_eq_or_of_lt (Nat.mod_lt _ (Nat.two_pow_pos lo)), Nat.div_add_mod]
theorem sa_even {x : Int32} (hb : x.toInt.natAbs < 2 ^ 30) : ((nI (sa_fo x) &&& 1 = 0) ∧ nI (sa_fo x) >>> ((1 : Int32) &&& 31) = x) ∨ (¬ (nI (sa_fo x) &&& 1 = 0) ∧ -((nI (sa_fo x) + 1) >>> ((1 : Int32) &&& 31)) = x) := by
  have hu1 : sa_fo x + 1 < 2 ^ 31 := by have := sa_fo_bd (B := 2 ^ 30 - 1) (x := x) (by omega); omega
  have hu : sa_fo x < 2 ^ 31 := by omega
  have ha : nI (sa_fo x) &&& 1 = nI (sa_fo x % 2) := pk_andN (by omega) 1 (by decide)
  rw [ha]
  by_cases h : 0 ≤ x.toInt
  · obtain ⟨j, hj, hf, _⟩ := sa_fo_nn h
    refine Or.inl ⟨by rw [hf, Nat.mul_mod_right]; rfl, ?_⟩
    rw [pk_shrN hu _ 1 (by decide), hf, hj]
    exact congrArg nI (by omega)
  · obtain ⟨j, hj, hf, _⟩ := sa_fo_ng h hb
    refine Or.inr ⟨by rw [hf, show (2 * j + 1) % 2 = 1 from by omega]; decide, ?_⟩
    rw [nI_1, pk_shrN hu1 _ 1 (by decide), hf, hj]
    exact congrArg (fun z => -nI z) (by omega)
end
section
/-! the component's bit writers and readers -/
section
variable {f_length f_size f_low f_outBits f_blocks f_source f_check : Int32} {a_left a_right a_bytes a_used a_turnedBit a_blockLeft a_blockRight a_otherLeft a_otherRight a_row a_residue a_weight a_out a_starts : Nat → Int32}
theorem sa_putBit {post : SX → Prop} {x : Int32} (p : Nat) (b : Bool) (hx : x = nI b.toNat) (hp : p < 3360)
    (H : post (f_length, f_size, f_low, nI (p + 1), f_blocks, f_source, f_check, a_left, a_right, a_bytes, a_used, a_turnedBit, a_blockLeft, a_blockRight, a_otherLeft, a_otherRight, a_row, a_residue, a_weight, sa_p1 a_out p b, a_starts)) : wpX_putBit post (f_length, f_size, f_low, nI p, f_blocks, f_source, f_check, a_left, a_right, a_bytes, a_used, a_turnedBit, a_blockLeft, a_blockRight, a_otherLeft, a_otherRight, a_row, a_residue, a_weight, a_out, a_starts) x := by
  refine nm_r (e' := nI (p / 8)) (pk_shrN (by omega) _ 3 (by decide)) ?_
  refine nm_r (e' := sa_mk (p % 8)) (by rw [pk_andN (by omega) 3 (by decide)]; rfl) ?_
  cases b
  · refine br_f (by rw [hx]; decide) ⟨vp_in_nI (by omega) (by omega), vp_in_nI (by omega) (by omega), ?_⟩
    refine nm_r (e' := sa_p1 a_out p false) (by rw [nI_clamp (by omega)]; rfl) (nm_r (nI_1 p) H)
  · refine br_t (by rw [hx]; decide) ⟨vp_in_nI (by omega) (by omega), vp_in_nI (by omega) (by omega), ?_⟩
    refine nm_r (e' := sa_p1 a_out p true) (by rw [nI_clamp (by omega)]; rfl) (nm_r (nI_1 p) H)
theorem sa_putBits_l {post : SX → Prop} {x : Int32} : ∀ (c n p : Nat) (o : Nat → Int32), c < n → c ≤ 32 → p + c ≤ 3360 →
    post (f_length, f_size, f_low, nI (p + c), f_blocks, f_source, f_check, a_left, a_right, a_bytes, a_used, a_turnedBit, a_blockLeft, a_blockRight, a_otherLeft, a_otherRight, a_row, a_residue, a_weight, sa_pL (sa_bw x c) o p, a_starts) → wX_putBits_4 post x n (nI c - 1) f_length f_size f_low (nI p) f_blocks f_source f_check a_left a_right a_bytes a_used a_turnedBit a_blockLeft a_blockRight a_otherLeft a_otherRight a_row a_residue a_weight o a_starts := by
  intro c
  induction c with
  | zero =>
    intro n p o hn _ _ H
    obtain ⟨n, rfl⟩ : ∃ m, n = m + 1 := ⟨n - 1, by omega⟩
    exact br_t (by decide) H
  | succ c ih =>
    intro n p o hn hc hp H
    obtain ⟨n, rfl⟩ : ∃ m, n = m + 1 := ⟨n - 1, by omega⟩
    rw [nI_pred]
    refine br_f (nI_pos (by omega)) (sa_putBit p (bt x c) (sa_bit1 x (by omega)) (by omega) ?_)
    refine nm_r (e' := nI c - 1) (Int32.sub_eq_add_neg ..).symm (ih n (p + 1) _ (by omega) (by omega) (by omega) ?_)
    rw [show p + 1 + c = p + (c + 1) from by omega]
    exact H
theorem sa_putBits {post : SX → Prop} {x : Int32} (c p : Nat) (hc : c ≤ 32) (hp : p + c ≤ 3360)
    (H : post (f_length, f_size, f_low, nI (p + c), f_blocks, f_source, f_check, a_left, a_right, a_bytes, a_used, a_turnedBit, a_blockLeft, a_blockRight, a_otherLeft, a_otherRight, a_row, a_residue, a_weight, sa_pL (sa_bw x c) a_out p, a_starts)) : wpX_putBits post (f_length, f_size, f_low, nI p, f_blocks, f_source, f_check, a_left, a_right, a_bytes, a_used, a_turnedBit, a_blockLeft, a_blockRight, a_otherLeft, a_otherRight, a_row, a_residue, a_weight, a_out, a_starts) x (nI c) :=
  nm_e ⟨c + 1, sa_putBits_l c (c + 1) p a_out (by omega) hc hp H⟩
theorem sa_takeBit {post : Int32 → SX → Prop} (s : Nat) (hs : s < 13440)
    (H : post (nI (sa_gb a_bytes s).toNat) (f_length, f_size, f_low, f_outBits, f_blocks, nI (s + 1), f_check, a_left, a_right, a_bytes, a_used, a_turnedBit, a_blockLeft, a_blockRight, a_otherLeft, a_otherRight, a_row, a_residue, a_weight, a_out, a_starts)) : wpX_takeBit post (f_length, f_size, f_low, f_outBits, f_blocks, nI s, f_check, a_left, a_right, a_bytes, a_used, a_turnedBit, a_blockLeft, a_blockRight, a_otherLeft, a_otherRight, a_row, a_residue, a_weight, a_out, a_starts) := by
  have e : nI s >>> ((3 : Int32) &&& 31) = nI (s / 8) := pk_shrN (by omega) _ 3 (by decide)
  refine ⟨by rw [e]; exact vp_in_nI (by omega) (by omega), nm_r (e' := nI (sa_gb a_bytes s).toNat) ?_ (nm_r (nI_1 s) H)⟩
  rw [e, nI_clamp (by omega), pk_andN (by omega) 3 (by decide), sa_bit1 _ (by omega)]
  rfl
theorem sa_takeBits_l {post : Int32 → SX → Prop} {C : Nat} (hC : C < 2 ^ 30) : ∀ (l : List Bool) (n k s a : Nat), l.length < n → k + l.length = C → s + l.length ≤ 13440 →
    sa_Ho (sa_gb a_bytes) s l → post (nI (sa_rv l a)) (f_length, f_size, f_low, f_outBits, f_blocks, nI (s + l.length), f_check, a_left, a_right, a_bytes, a_used, a_turnedBit, a_blockLeft, a_blockRight, a_otherLeft, a_otherRight, a_row, a_residue, a_weight, a_out, a_starts) → wX_takeBits_4 post (nI C) n (nI a) (nI k) f_length f_size f_low f_outBits f_blocks (nI s) f_check a_left a_right a_bytes a_used a_turnedBit a_blockLeft a_blockRight a_otherLeft a_otherRight a_row a_residue a_weight a_out a_starts := by
  intro l
  induction l with
  | nil =>
    intro n k s a hn hk hs _ H
    obtain ⟨n, rfl⟩ : ∃ m, n = m + 1 := ⟨n - 1, by omega⟩
    exact br_t (nI_le (by rw [List.length_nil] at hk; omega) (by rw [List.length_nil] at hk; omega)) H
  | cons b l ih =>
    intro n k s a hn hk hs hh H
    rw [List.length_cons] at hn hk hs H
    obtain ⟨n, rfl⟩ : ∃ m, n = m + 1 := ⟨n - 1, by omega⟩
    refine br_f (nI_ge (by omega) (by omega)) (sa_takeBit s (by omega) ?_)
    rw [hh.1]
    refine nm_r (e' := nI (2 * a + b.toNat)) (by rw [← nI_add, ← pk_mul]; rfl) (nm_r (nI_1 k) ?_)
    refine ih n (k + 1) (s + 1) _ (by omega) (by omega) (by omega) hh.2 ?_
    rw [show s + 1 + l.length = s + (l.length + 1) from by omega]
    exact H
theorem sa_takeBits {post : Int32 → SX → Prop} (c s : Nat) (x : Int32) (hc : c ≤ 32) (hs : s + c ≤ 13440) (hh : sa_Ho (sa_gb a_bytes) s (sa_bw x c))
    (H : post (nI (x.toBitVec.toNat % 2 ^ c)) (f_length, f_size, f_low, f_outBits, f_blocks, nI (s + c), f_check, a_left, a_right, a_bytes, a_used, a_turnedBit, a_blockLeft, a_blockRight, a_otherLeft, a_otherRight, a_row, a_residue, a_weight, a_out, a_starts)) : wpX_takeBits post (f_length, f_size, f_low, f_outBits, f_blocks, nI s, f_check, a_left, a_right, a_bytes, a_used, a_turnedBit, a_blockLeft, a_blockRight, a_otherLeft, a_otherRight, a_row, a_residue, a_weight, a_out, a_starts) (nI c) := by
  have e := sa_bw_len x c
  refine ⟨c + 1, sa_takeBits_l (by omega) (sa_bw x c) (c + 1) 0 s 0 (by omega) (by omega) (by omega) hh ?_⟩
  rw [sa_rv_bw, e, Nat.zero_mul, Nat.zero_add]
  exact H
theorem sa_takeBitsN {post : Int32 → SX → Prop} (c s v : Nat) (hv : v < 2 ^ c) (hc : c ≤ 16) (hs : s + c ≤ 13440) (hh : sa_Ho (sa_gb a_bytes) s (sa_bw (nI v) c))
    (H : post (nI v) (f_length, f_size, f_low, f_outBits, f_blocks, nI (s + c), f_check, a_left, a_right, a_bytes, a_used, a_turnedBit, a_blockLeft, a_blockRight, a_otherLeft, a_otherRight, a_row, a_residue, a_weight, a_out, a_starts)) : wpX_takeBits post (f_length, f_size, f_low, f_outBits, f_blocks, nI s, f_check, a_left, a_right, a_bytes, a_used, a_turnedBit, a_blockLeft, a_blockRight, a_otherLeft, a_otherRight, a_row, a_residue, a_weight, a_out, a_starts) (nI c) := by
  have h16 : 2 ^ c ≤ 2 ^ 16 := Nat.pow_le_pow_right (by decide) hc
  refine sa_takeBits c s (nI v) (by omega) hs hh ?_
  rw [pk_tn (by omega), Nat.mod_eq_of_lt hv]
  exact H
theorem sa_wide {x : Int32} (h1 : -8192 ≤ x.toInt) (h2 : x.toInt ≤ 8191) : (x.toBitVec.toNat % 16384 < 8192 ∧ nI (x.toBitVec.toNat % 16384) = x) ∨ (8192 ≤ x.toBitVec.toNat % 16384 ∧ nI (x.toBitVec.toNat % 16384) - 16384 = x) := by
  have e : x.toInt = x.toBitVec.toInt := rfl
  have h3 := BitVec.toInt_eq_toNat_cond x.toBitVec
  have h4 := x.toBitVec.isLt
  rw [← e] at h3
  generalize x.toBitVec.toNat = N at *
  by_cases h : 0 ≤ x.toInt
  · rw [if_pos (by split at h3 <;> omega)] at h3
    refine Or.inl ⟨by omega, Int32.toInt_inj.mp ?_⟩
    rw [nI_toInt (by omega)]; omega
  · rw [if_neg (by split at h3 <;> omega)] at h3
    refine Or.inr ⟨by omega, Int32.toInt_inj.mp ?_⟩
    show (nI (N % 16384) - nI 16384).toInt = _
    rw [pk_sub_toInt (by omega) (by omega)]; omega
theorem sa_takeWide {post : Int32 → SX → Prop} (s : Nat) (x : Int32) (h1 : -8192 ≤ x.toInt) (h2 : x.toInt ≤ 8191) (hs : s + 14 ≤ 13440) (hh : sa_Ho (sa_gb a_bytes) s (sa_bw x 14))
    (H : post x (f_length, f_size, f_low, f_outBits, f_blocks, nI (s + 14), f_check, a_left, a_right, a_bytes, a_used, a_turnedBit, a_blockLeft, a_blockRight, a_otherLeft, a_otherRight, a_row, a_residue, a_weight, a_out, a_starts)) : wpX_takeWide post (f_length, f_size, f_low, f_outBits, f_blocks, nI s, f_check, a_left, a_right, a_bytes, a_used, a_turnedBit, a_blockLeft, a_blockRight, a_otherLeft, a_otherRight, a_row, a_residue, a_weight, a_out, a_starts) := by
  refine sa_takeBits 14 s x (by omega) hs hh ?_
  rcases sa_wide h1 h2 with ⟨h, e⟩ | ⟨h, e⟩
  · refine br_t (nI_lt (b := 8192) h (by omega)) ?_
    show post (nI (x.toBitVec.toNat % 16384)) _
    rw [e]; exact H
  · refine br_f (nI_nlt (b := 8192) h (by omega)) ?_
    show post (nI (x.toBitVec.toNat % 16384) - 16384) _
    rw [e]; exact H
theorem sa_putFolded_l {post : SX → Prop} {lo u : Nat} (hlo : lo ≤ 32) : ∀ (q n p : Nat) (o : Nat → Int32), q < n → q < 2 ^ 30 → p + q + 1 + lo ≤ 3360 →
    post (f_length, f_size, f_low, nI (p + q + 1 + lo), f_blocks, f_source, f_check, a_left, a_right, a_bytes, a_used, a_turnedBit, a_blockLeft, a_blockRight, a_otherLeft, a_otherRight, a_row, a_residue, a_weight, sa_pL (List.replicate q true ++ (false :: sa_bw (nI u) lo)) o p, a_starts) → wX_putFolded_10 post (nI lo) (nI u) n (nI q) f_length f_size f_low (nI p) f_blocks f_source f_check a_left a_right a_bytes a_used a_turnedBit a_blockLeft a_blockRight a_otherLeft a_otherRight a_row a_residue a_weight o a_starts := by
  intro q
  induction q with
  | zero =>
    intro n p o hn _ hp H
    obtain ⟨n, rfl⟩ : ∃ m, n = m + 1 := ⟨n - 1, by omega⟩
    refine br_t (Int32.le_refl _) (sa_putBit p false (by rfl) (by omega) ?_)
    refine sa_putBits lo (p + 1) hlo (by omega) ?_
    exact H
  | succ q ih =>
    intro n p o hn hq hp H
    obtain ⟨n, rfl⟩ : ∃ m, n = m + 1 := ⟨n - 1, by omega⟩
    refine br_f (nI_nle (by omega) (by omega)) (sa_putBit p true (by rfl) (by omega) ?_)
    refine nm_r (e' := nI q) (pk_m1 q) (ih n (p + 1) _ (by omega) (by omega) (by omega) ?_)
    rw [show p + 1 + q + 1 + lo = p + (q + 1) + 1 + lo from by omega]
    exact H
theorem sa_putFolded {post : SX → Prop} {x : Int32} (lo p : Nat) (hlo : lo < 32) (hb : x.toInt.natAbs < 2 ^ 29) (hp : p + (sa_eF x lo).length ≤ 3360)
    (H : post (f_length, f_size, f_low, nI (p + (sa_eF x lo).length), f_blocks, f_source, f_check, a_left, a_right, a_bytes, a_used, a_turnedBit, a_blockLeft, a_blockRight, a_otherLeft, a_otherRight, a_row, a_residue, a_weight, sa_pL (sa_eF x lo) a_out p, a_starts)) : wpX_putFolded post (f_length, f_size, f_low, nI p, f_blocks, f_source, f_check, a_left, a_right, a_bytes, a_used, a_turnedBit, a_blockLeft, a_blockRight, a_otherLeft, a_otherRight, a_row, a_residue, a_weight, a_out, a_starts) x (nI lo) := by
  rw [sa_eF_len] at hp H
  have hu : sa_fo x < 2 ^ 30 := by have := sa_fo_bd (B := 2 ^ 29 - 1) (x := x) (by omega); omega
  have hd : sa_fo x / 2 ^ lo ≤ sa_fo x := Nat.div_le_self _ _
  unfold wpX_putFolded
  dsimp only
  refine sa_folded (x := x) (by omega) ?_
  refine nm_r (e' := nI (sa_fo x / 2 ^ lo)) (pk_shrN (by omega) _ lo (s_l lo hlo)) ⟨_, sa_putFolded_l (by omega) _ _ p a_out (Nat.lt_succ_self _) (by omega) (by omega) ?_⟩
  rw [show p + sa_fo x / 2 ^ lo + 1 + lo = p + (sa_fo x / 2 ^ lo + 1 + lo) from by omega]
  exact H
theorem sa_takeFolded_b {post : Int32 → SX → Prop} {x : Int32} (lo s : Nat) (hlo : lo < 16) (hb : x.toInt.natAbs < 2 ^ 29) (hs : s + lo ≤ 13440) (hh : sa_Ho (sa_gb a_bytes) s (sa_bw (nI (sa_fo x)) lo))
    (H : post x (f_length, f_size, f_low, f_outBits, f_blocks, nI (s + lo), f_check, a_left, a_right, a_bytes, a_used, a_turnedBit, a_blockLeft, a_blockRight, a_otherLeft, a_otherRight, a_row, a_residue, a_weight, a_out, a_starts)) : wX_takeFolded_23 post (nI lo) (nI (sa_fo x / 2 ^ lo)) f_length f_size f_low f_outBits f_blocks (nI s) f_check a_left a_right a_bytes a_used a_turnedBit a_blockLeft a_blockRight a_otherLeft a_otherRight a_row a_residue a_weight a_out a_starts := by
  have hu : sa_fo x < 2 ^ 30 := by have := sa_fo_bd (B := 2 ^ 29 - 1) (x := x) (by omega); omega
  refine sa_takeBits lo s (nI (sa_fo x)) (by omega) hs hh ?_
  rw [pk_tn (by omega)]
  refine nm_r (e' := nI (sa_fo x)) (sa_join _ _ (by omega) (by omega)) ?_
  rcases sa_even (x := x) (by omega) with ⟨h, e⟩ | ⟨h, e⟩
  · refine br_t h ?_
    rw [e]; exact H
  · refine br_f h ?_
    rw [e]; exact H
theorem sa_takeFolded_l {post : Int32 → SX → Prop} {x : Int32} (lo : Nat) (hlo : lo < 16) (hb : x.toInt.natAbs < 2 ^ 29) (hq : sa_fo x / 2 ^ lo < 400) : ∀ (r n k s : Nat), r < n → k + r = sa_fo x / 2 ^ lo → s + r + 1 + lo ≤ 13440 →
    sa_Ho (sa_gb a_bytes) s (List.replicate r true ++ (false :: sa_bw (nI (sa_fo x)) lo)) → post x (f_length, f_size, f_low, f_outBits, f_blocks, nI (s + r + 1 + lo), f_check, a_left, a_right, a_bytes, a_used, a_turnedBit, a_blockLeft, a_blockRight, a_otherLeft, a_otherRight, a_row, a_residue, a_weight, a_out, a_starts) → wX_takeFolded_2 post (nI lo) n (nI k) f_length f_size f_low f_outBits f_blocks (nI s) f_check a_left a_right a_bytes a_used a_turnedBit a_blockLeft a_blockRight a_otherLeft a_otherRight a_row a_residue a_weight a_out a_starts := by
  intro r
  induction r with
  | zero =>
    intro n k s hn hk hs hh H
    obtain ⟨n, rfl⟩ : ∃ m, n = m + 1 := ⟨n - 1, by omega⟩
    refine br_f (nI_ge (b := 400) (by omega) (by omega)) (sa_takeBit s (by omega) ?_)
    have h1 : sa_gb a_bytes s = false := hh.1
    rw [h1]
    refine br_f (by decide) ?_
    rw [show k = sa_fo x / 2 ^ lo from by omega]
    exact sa_takeFolded_b lo (s + 1) hlo hb (by omega) hh.2 H
  | succ r ih =>
    intro n k s hn hk hs hh H
    obtain ⟨n, rfl⟩ : ∃ m, n = m + 1 := ⟨n - 1, by omega⟩
    refine br_f (nI_ge (b := 400) (by omega) (by omega)) (sa_takeBit s (by omega) ?_)
    have h1 : sa_gb a_bytes s = true := hh.1
    rw [h1]
    refine br_t (by decide) (nm_r (nI_1 k) (ih n (k + 1) (s + 1) (by omega) (by omega) (by omega) hh.2 ?_))
    rw [show s + 1 + r + 1 + lo = s + (r + 1) + 1 + lo from by omega]
    exact H
theorem sa_takeFolded {post : Int32 → SX → Prop} {x : Int32} (lo s : Nat) (hlo : lo < 16) (hb : x.toInt.natAbs < 2 ^ 29) (hq : sa_fo x / 2 ^ lo < 400) (hs : s + (sa_eF x lo).length ≤ 13440)
    (hh : sa_Ho (sa_gb a_bytes) s (sa_eF x lo)) (H : post x (f_length, f_size, f_low, f_outBits, f_blocks, nI (s + (sa_eF x lo).length), f_check, a_left, a_right, a_bytes, a_used, a_turnedBit, a_blockLeft, a_blockRight, a_otherLeft, a_otherRight, a_row, a_residue, a_weight, a_out, a_starts)) : wpX_takeFolded post (f_length, f_size, f_low, f_outBits, f_blocks, nI s, f_check, a_left, a_right, a_bytes, a_used, a_turnedBit, a_blockLeft, a_blockRight, a_otherLeft, a_otherRight, a_row, a_residue, a_weight, a_out, a_starts) (nI lo) := by
  rw [sa_eF_len] at hs H
  refine ⟨_, sa_takeFolded_l lo hlo hb hq (sa_fo x / 2 ^ lo) _ 0 s (Nat.lt_succ_self _) (by omega) (by omega) hh ?_⟩
  rw [show s + sa_fo x / 2 ^ lo + 1 + lo = s + (sa_fo x / 2 ^ lo + 1 + lo) from by omega]
  exact H
end
end
section
/-! foretelling, weights, what is left: the mathematics -/
def sa_pb (R : Nat → Int32) (i k : Nat) : Int32 := if k ≤ i then R (i - k) else 0
def sa_fw (m : Nat) (W : Nat → Int32) (R : Nat → Int32) (i : Nat) : Int32 :=
  if m = 7 then (W 0 * sa_pb R i 1 + W 1 * sa_pb R i 2 + W 2 * sa_pb R i 3 + W 3 * sa_pb R i 4) >>> ((6 : Int32) &&& 31)
  else if m = 2 then 0 else if m = 3 then sa_pb R i 1 else if m = 4 then 2 * sa_pb R i 1 - sa_pb R i 2
  else if m = 5 then 3 * sa_pb R i 1 - 3 * sa_pb R i 2 + sa_pb R i 3
  else 4 * sa_pb R i 1 - 6 * sa_pb R i 2 + 4 * sa_pb R i 3 - sa_pb R i 4
def sa_sg (x : Int32) : Int32 := if x ≤ 0 then (if 0 ≤ x then 0 else -1) else 1
def sa_lr (W R : Nat → Int32) (i : Nat) (x : Int32) : Nat → Int32 := fun k => W k + sa_sg x * sa_sg (sa_pb R i (k + 1))
def sa_ws (m : Nat) (R : Nat → Int32) : Nat → (Nat → Int32)
  | 0 => fun k => if k = 0 then 64 else 0
  | i + 1 => if m = 7 then sa_lr (sa_ws m R i) R i (R i - sa_fw m (sa_ws m R i) R i) else sa_ws m R i
def sa_rs (m : Nat) (R : Nat → Int32) (i : Nat) : Int32 := R i - sa_fw m (sa_ws m R i) R i
def sa_ro (row : Nat → Int32) (fr : Nat) : Nat → Int32 := fun j => row (fr + j)
theorem sa_pb_c {R Q : Nat → Int32} {i k : Nat} (h : ∀ j, j < i → R j = Q j) (hk : 1 ≤ k) : sa_pb R i k = sa_pb Q i k := by
  unfold sa_pb
  by_cases e : k ≤ i
  · rw [if_pos e, if_pos e, h _ (by omega)]
  · rw [if_neg e, if_neg e]
theorem sa_fw_c {m : Nat} {W Z R Q : Nat → Int32} {i : Nat} (h : ∀ j, j < i → R j = Q j) (hw : ∀ k, k < 4 → W k = Z k) : sa_fw m W R i = sa_fw m Z Q i := by
  unfold sa_fw
  rw [sa_pb_c h (k := 1) (by omega), sa_pb_c h (k := 2) (by omega), sa_pb_c h (k := 3) (by omega), sa_pb_c h (k := 4) (by omega), hw 0 (by omega), hw 1 (by omega), hw 2 (by omega), hw 3 (by omega)]
theorem sa_lr_c {W Z R Q : Nat → Int32} {i : Nat} {x : Int32} (h : ∀ j, j < i → R j = Q j) {k : Nat} (hw : W k = Z k) : sa_lr W R i x k = sa_lr Z Q i x k := by
  unfold sa_lr
  rw [hw, sa_pb_c h (k := k + 1) (by omega)]
theorem sa_ws_c {m : Nat} {R Q : Nat → Int32} : ∀ (i : Nat), (∀ j, j < i → R j = Q j) → sa_ws m R i = sa_ws m Q i := by
  intro i
  induction i with
  | zero => intro _; rfl
  | succ i ih =>
    intro h
    have e := ih (fun j hj => h j (by omega))
    show (if m = 7 then sa_lr (sa_ws m R i) R i (R i - sa_fw m (sa_ws m R i) R i) else sa_ws m R i) = (if m = 7 then sa_lr (sa_ws m Q i) Q i (Q i - sa_fw m (sa_ws m Q i) Q i) else sa_ws m Q i)
    rw [e, h i (by omega), sa_fw_c (fun j hj => h j (by omega)) (fun k _ => rfl)]
    by_cases e7 : m = 7
    · rw [if_pos e7, if_pos e7]
      funext k
      exact sa_lr_c (fun j hj => h j (by omega)) rfl
    · rw [if_neg e7, if_neg e7]
theorem sa_rs_c {m : Nat} {R Q : Nat → Int32} (i : Nat) (h : ∀ j, j < i + 1 → R j = Q j) : sa_rs m R i = sa_rs m Q i := by
  unfold sa_rs
  rw [h i (by omega), sa_ws_c i (fun j hj => h j (by omega)), sa_fw_c (fun j hj => h j (by omega)) (fun k _ => rfl)]
/-! bounds -/
def sa_bd (x : Int32) (B : Nat) : Prop := x.toInt.natAbs ≤ B
theorem sa_bd_m {x : Int32} {A B : Nat} (h : sa_bd x A) (hh : A ≤ B) : sa_bd x B := Nat.le_trans h hh
theorem sa_bd_add {x y : Int32} {A B : Nat} (hx : sa_bd x A) (hy : sa_bd y B) (h : A + B < 2 ^ 31) : sa_bd (x + y) (A + B) := by
  unfold sa_bd at *
  rw [Int32.toInt_add, Int.bmod_eq_of_le (by omega) (by omega)]
  omega
theorem sa_bd_sub {x y : Int32} {A B : Nat} (hx : sa_bd x A) (hy : sa_bd y B) (h : A + B < 2 ^ 31) : sa_bd (x - y) (A + B) := by
  unfold sa_bd at *
  rw [Int32.toInt_sub, Int.bmod_eq_of_le (by omega) (by omega)]
  omega
theorem sa_bd_mul {x y : Int32} {A B : Nat} (hx : sa_bd x A) (hy : sa_bd y B) (h : A * B < 2 ^ 31) : sa_bd (x * y) (A * B) := by
  unfold sa_bd at *
  have e : (x.toInt * y.toInt).natAbs ≤ A * B := by rw [Int.natAbs_mul]; exact Nat.mul_le_mul hx hy
  rw [Int32.toInt_mul]
  generalize x.toInt * y.toInt = z at *
  generalize A * B = C at *
  rw [Int.bmod_eq_of_le (by omega) (by omega)]
  exact e
theorem sa_bd_shr6 {x : Int32} {A : Nat} (hx : sa_bd x A) : sa_bd (x >>> ((6 : Int32) &&& 31)) A := by
  unfold sa_bd at *
  rw [pk_shr _ _ 6 (by decide), Int.shiftRight_eq_div_pow]
  omega
theorem sa_bd_pb {R : Nat → Int32} {i k B : Nat} (h : ∀ j, j < i → sa_bd (R j) B) (hk : 1 ≤ k) : sa_bd (sa_pb R i k) B := by
  unfold sa_pb
  by_cases e : k ≤ i
  · rw [if_pos e]; exact h _ (by omega)
  · rw [if_neg e]; exact Nat.zero_le _
theorem sa_bd_sg (x : Int32) : sa_bd (sa_sg x) 1 := by
  unfold sa_sg
  split
  · split
    · exact Nat.zero_le _
    · exact Nat.le_refl _
  · exact Nat.le_refl _
theorem sa_ws_bd {m : Nat} {R : Nat → Int32} (k : Nat) : ∀ i, i ≤ 16 → sa_bd (sa_ws m R i k) (64 + i) := by
  intro i
  induction i with
  | zero =>
    intro _
    show sa_bd (if k = 0 then 64 else 0) _
    split
    · exact Nat.le_refl _
    · exact Nat.zero_le _
  | succ i ih =>
    intro hi
    show sa_bd ((if m = 7 then sa_lr (sa_ws m R i) R i (R i - sa_fw m (sa_ws m R i) R i) else sa_ws m R i) k) _
    by_cases e7 : m = 7
    · rw [if_pos e7]
      exact sa_bd_m (sa_bd_add (ih (by omega)) (sa_bd_mul (sa_bd_sg _) (sa_bd_sg _) (by omega)) (by omega)) (by omega)
    · rw [if_neg e7]
      exact sa_bd_m (ih (by omega)) (by omega)
theorem sa_bd_l (n : Nat) (h : n < 2 ^ 31) : sa_bd (nI n) n := by
  unfold sa_bd
  rw [nI_toInt h]
  omega
theorem sa_fw_bd {m : Nat} {W R : Nat → Int32} {i : Nat} (hR : ∀ j, j < i → sa_bd (R j) 4096) (hW : ∀ k, k < 4 → sa_bd (W k) 80) : sa_bd (sa_fw m W R i) 1310720 := by
  have b1 := sa_bd_pb (k := 1) hR (by omega)
  have b2 := sa_bd_pb (k := 2) hR (by omega)
  have b3 := sa_bd_pb (k := 3) hR (by omega)
  have b4 := sa_bd_pb (k := 4) hR (by omega)
  have t2 : sa_bd 2 2 := sa_bd_l 2 (by omega)
  have t3 : sa_bd 3 3 := sa_bd_l 3 (by omega)
  have t4 : sa_bd 4 4 := sa_bd_l 4 (by omega)
  have t6 : sa_bd 6 6 := sa_bd_l 6 (by omega)
  unfold sa_fw
  split
  · refine sa_bd_m (sa_bd_shr6 (sa_bd_add (sa_bd_add (sa_bd_add (sa_bd_mul (hW 0 (by omega)) b1 (by omega)) (sa_bd_mul (hW 1 (by omega)) b2 (by omega)) (by omega)) (sa_bd_mul (hW 2 (by omega)) b3 (by omega)) (by omega)) (sa_bd_mul (hW 3 (by omega)) b4 (by omega)) (by omega))) (by omega)
  · split
    · exact Nat.zero_le _
    · split
      · exact sa_bd_m b1 (by omega)
      · split
        · exact sa_bd_m (sa_bd_sub (sa_bd_mul t2 b1 (by omega)) b2 (by omega)) (by omega)
        · split
          · exact sa_bd_m (sa_bd_add (sa_bd_sub (sa_bd_mul t3 b1 (by omega)) (sa_bd_mul t3 b2 (by omega)) (by omega)) b3 (by omega)) (by omega)
          · exact sa_bd_m (sa_bd_sub (sa_bd_add (sa_bd_sub (sa_bd_mul t4 b1 (by omega)) (sa_bd_mul t6 b2 (by omega)) (by omega)) (sa_bd_mul t4 b3 (by omega)) (by omega)) b4 (by omega)) (by omega)
theorem sa_rs_bd {m : Nat} {R : Nat → Int32} {i : Nat} (hi : i < 16) (hR : ∀ j, j < i + 1 → sa_bd (R j) 4096) : sa_bd (sa_rs m R i) 1400000 := by
  unfold sa_rs
  exact sa_bd_m (sa_bd_sub (hR i (by omega)) (sa_fw_bd (fun j hj => hR j (by omega)) (fun k _ => sa_bd_m (sa_ws_bd k i (by omega)) (by omega))) (by omega)) (by omega)
/-! left and right as two rows, and back -/
def sa_m0 (w : Nat) (l r : Int32) : Int32 := if w = 0 then l else if w = 2 then l else if w = 1 then (l + r) >>> ((1 : Int32) &&& 31) else r
def sa_m1 (w : Nat) (l r : Int32) : Int32 := if w = 0 then r else l - r
def sa_t0 (w : Nat) (a d : Int32) : Int32 := if w = 0 then a else if w = 1 then a + ((d + 1) >>> ((1 : Int32) &&& 31)) else if w = 2 then a else a + d
def sa_t1 (w : Nat) (a d : Int32) : Int32 := if w = 0 then d else if w = 1 then (a + ((d + 1) >>> ((1 : Int32) &&& 31))) - d else if w = 2 then a - d else a
theorem sa_mid {l r : Int32} (hl : sa_bd l 2048) (hr : sa_bd r 2048) : (l + r) >>> ((1 : Int32) &&& 31) + ((l - r + 1) >>> ((1 : Int32) &&& 31)) = l := by
  unfold sa_bd at hl hr
  have e1 : (l + r).toInt = l.toInt + r.toInt := by rw [Int32.toInt_add, Int.bmod_eq_of_le (by omega) (by omega)]
  have e2 : (l - r).toInt = l.toInt - r.toInt := by rw [Int32.toInt_sub, Int.bmod_eq_of_le (by omega) (by omega)]
  have e3 : (l - r + 1).toInt = l.toInt - r.toInt + 1 := by
    rw [Int32.toInt_add, e2, show (1 : Int32).toInt = 1 from by decide, Int.bmod_eq_of_le (by omega) (by omega)]
  have f1 : ((l + r) >>> ((1 : Int32) &&& 31)).toInt = (l.toInt + r.toInt) / 2 := by
    rw [pk_shr _ _ 1 (by decide), e1, Int.shiftRight_eq_div_pow]; rfl
  have f2 : ((l - r + 1) >>> ((1 : Int32) &&& 31)).toInt = (l.toInt - r.toInt + 1) / 2 := by
    rw [pk_shr _ _ 1 (by decide), e3, Int.shiftRight_eq_div_pow]; rfl
  apply Int32.toInt_inj.mp
  rw [Int32.toInt_add, f1, f2, Int.bmod_eq_of_le (by omega) (by omega)]
  omega
theorem sa_t0_m {w : Nat} (hw : w < 4) {l r : Int32} (hl : sa_bd l 2048) (hr : sa_bd r 2048) : sa_t0 w (sa_m0 w l r) (sa_m1 w l r) = l := by
  obtain rfl | rfl | rfl | rfl : w = 0 ∨ w = 1 ∨ w = 2 ∨ w = 3 := by omega
  · rfl
  · exact sa_mid hl hr
  · rfl
  · show r + (l - r) = l
    grind
theorem sa_t1_m {w : Nat} (hw : w < 4) {l r : Int32} (hl : sa_bd l 2048) (hr : sa_bd r 2048) : sa_t1 w (sa_m0 w l r) (sa_m1 w l r) = r := by
  obtain rfl | rfl | rfl | rfl : w = 0 ∨ w = 1 ∨ w = 2 ∨ w = 3 := by omega
  · rfl
  · show ((l + r) >>> ((1 : Int32) &&& 31) + ((l - r + 1) >>> ((1 : Int32) &&& 31))) - (l - r) = r
    rw [sa_mid hl hr]
    grind
  · show l - (l - r) = r
    grind
  · rfl
theorem sa_m0_bd {w : Nat} {l r : Int32} (hl : sa_bd l 2048) (hr : sa_bd r 2048) : sa_bd (sa_m0 w l r) 4096 := by
  unfold sa_m0
  split
  · exact sa_bd_m hl (by omega)
  · split
    · exact sa_bd_m hl (by omega)
    · split
      · have h := sa_bd_add hl hr (by omega)
        unfold sa_bd at *
        rw [pk_shr _ _ 1 (by decide), Int.shiftRight_eq_div_pow]
        omega
      · exact sa_bd_m hr (by omega)
theorem sa_m1_bd {w : Nat} {l r : Int32} (hl : sa_bd l 2048) (hr : sa_bd r 2048) : sa_bd (sa_m1 w l r) 4096 := by
  unfold sa_m1
  split
  · exact sa_bd_m hr (by omega)
  · exact sa_bd_sub hl hr (by omega)
/-! how a row and a block are written -/
def sa_eS (r : Nat → Int32) (lo : Nat) : Nat → Nat → List Bool
  | _, 0 => []
  | i, k + 1 => sa_eF (r i) lo ++ sa_eS r lo (i + 1) k
def sa_eA (R : Nat → Int32) : Nat → Nat → List Bool
  | _, 0 => []
  | i, k + 1 => sa_bw (R i) 14 ++ sa_eA R (i + 1) k
theorem sa_eA_len (R : Nat → Int32) : ∀ k i, (sa_eA R i k).length = 14 * k
  | 0, _ => rfl
  | k + 1, i => by
    show (sa_bw (R i) 14 ++ sa_eA R (i + 1) k).length = _
    rw [List.length_append, sa_bw_len, sa_eA_len R k]
    omega
def sa_ER (sz : Nat) (R : Nat → Int32) (l : List Bool) : Prop :=
  (∃ v, (∀ i, i < sz → R i = v) ∧ l = sa_bw (nI 0) 3 ++ sa_bw v 14) ∨
  (l = sa_bw (nI 1) 3 ++ sa_eA R 0 sz) ∨
  (∃ m lo, 2 ≤ m ∧ m ≤ 7 ∧ lo < 16 ∧ (∀ i, i < sz → sa_fo (sa_rs m R i) / 2 ^ lo < 400) ∧ l = sa_bw (nI m) 3 ++ (sa_bw (nI lo) 4 ++ sa_eS (sa_rs m R) lo 0 sz))
def sa_EB (sz : Nat) (L R : Nat → Int32) (l : List Bool) : Prop :=
  ∃ w l0 l1, w < 4 ∧ sa_ER sz (fun i => sa_m0 w (L i) (R i)) l0 ∧ sa_ER sz (fun i => sa_m1 w (L i) (R i)) l1 ∧ l = sa_bw (nI w) 2 ++ (l0 ++ l1)
theorem sa_eS_c {r q : Nat → Int32} (lo : Nat) : ∀ k i, (∀ j, i ≤ j → j < i + k → r j = q j) → sa_eS r lo i k = sa_eS q lo i k
  | 0, _, _ => rfl
  | k + 1, i, h => by
    show sa_eF (r i) lo ++ sa_eS r lo (i + 1) k = sa_eF (q i) lo ++ sa_eS q lo (i + 1) k
    rw [h i (by omega) (by omega), sa_eS_c lo k (i + 1) (fun j h1 h2 => h j (by omega) (by omega))]
theorem sa_eA_c {r q : Nat → Int32} : ∀ k i, (∀ j, i ≤ j → j < i + k → r j = q j) → sa_eA r i k = sa_eA q i k
  | 0, _, _ => rfl
  | k + 1, i, h => by
    show sa_bw (r i) 14 ++ sa_eA r (i + 1) k = sa_bw (q i) 14 ++ sa_eA q (i + 1) k
    rw [h i (by omega) (by omega), sa_eA_c k (i + 1) (fun j h1 h2 => h j (by omega) (by omega))]
theorem sa_ER_c {sz : Nat} {R Q : Nat → Int32} {l : List Bool} (h : ∀ j, j < sz → R j = Q j) (H : sa_ER sz R l) : sa_ER sz Q l := by
  rcases H with ⟨v, hv, e⟩ | e | ⟨m, lo, h2, h7, hlo, hq, e⟩
  · exact Or.inl ⟨v, fun i hi => (h i hi).symm.trans (hv i hi), e⟩
  · exact Or.inr (Or.inl (by rw [e, sa_eA_c sz 0 (fun j _ hj => h j (by omega))]))
  · have hr : ∀ j, j < sz → sa_rs m R j = sa_rs m Q j := fun j hj => sa_rs_c j (fun i hi => h i (by omega))
    exact Or.inr (Or.inr ⟨m, lo, h2, h7, hlo, fun i hi => by rw [← hr i hi]; exact hq i hi, by rw [e, sa_eS_c lo sz 0 (fun j _ hj => hr j (by omega))]⟩)
theorem sa_EB_c {sz : Nat} {L R L' R' : Nat → Int32} {l : List Bool} (hL : ∀ j, j < sz → L j = L' j) (hR : ∀ j, j < sz → R j = R' j) (H : sa_EB sz L R l) : sa_EB sz L' R' l := by
  obtain ⟨w, l0, l1, hw, h0, h1, e⟩ := H
  exact ⟨w, l0, l1, hw, sa_ER_c (fun j hj => by rw [hL j hj, hR j hj]) h0, sa_ER_c (fun j hj => by rw [hL j hj, hR j hj]) h1, e⟩
end
section
/-! the component's rows: makeRows, takeRows, foretold, learn, findResidue -/
section
variable {f_length f_size f_low f_outBits f_blocks f_source f_check : Int32} {a_left a_right a_bytes a_used a_turnedBit a_blockLeft a_blockRight a_otherLeft a_otherRight a_row a_residue a_weight a_out a_starts : Nat → Int32}
theorem sa_before {post : Int32 → Prop} {y : Int32} (fr i k : Nat) (hf : fr ≤ 16) (hi : i < 16) (hk : k < 16) (h1 : 1 ≤ k) (hy : y = nI k)
    (H : post (sa_pb (sa_ro a_row fr) i k)) : wpX_before post (f_length, f_size, f_low, f_outBits, f_blocks, f_source, f_check, a_left, a_right, a_bytes, a_used, a_turnedBit, a_blockLeft, a_blockRight, a_otherLeft, a_otherRight, a_row, a_residue, a_weight, a_out, a_starts) (nI fr) (nI i) y := by
  subst hy
  unfold sa_pb at H
  refine br_c (fun h => ?_) (fun h => ?_)
  · rw [nI_ltI (by omega) (by omega)] at h
    rw [if_neg (by omega)] at H
    exact H
  · rw [nI_ltI (by omega) (by omega)] at h
    rw [if_pos (by omega)] at H
    have e : nI fr + nI i - nI k = nI (fr + (i - k)) := by
      rw [nI_add, pk_sub (by omega)]
      exact congrArg nI (by omega)
    rw [e, nI_clamp (by omega)]
    exact ⟨vp_in_nI (by omega) (by omega), H⟩
theorem sa_foretold {post : Int32 → Prop} (fr i m : Nat) (hf : fr ≤ 16) (hi : i < 16) (h2 : 2 ≤ m) (h7 : m ≤ 7)
    (H : post (sa_fw m a_weight (sa_ro a_row fr) i)) : wpX_foretold post (f_length, f_size, f_low, f_outBits, f_blocks, f_source, f_check, a_left, a_right, a_bytes, a_used, a_turnedBit, a_blockLeft, a_blockRight, a_otherLeft, a_otherRight, a_row, a_residue, a_weight, a_out, a_starts) (nI fr) (nI i) (nI m) := by
  unfold wpX_foretold
  dsimp only
  refine sa_before fr i 1 hf hi (by omega) (by omega) rfl ?_
  refine sa_before fr i 2 hf hi (by omega) (by omega) rfl ?_
  refine sa_before fr i 3 hf hi (by omega) (by omega) rfl ?_
  refine sa_before fr i 4 hf hi (by omega) (by omega) rfl ?_
  unfold sa_fw at H
  refine pk_eq m 7 (fun e => ?_) (fun e => ?_)
  · rw [if_pos e] at H; exact H
  · rw [if_neg e] at H
    refine nm_r (e' := nI (m - 2)) (pk_sub (b := 2) h2) ?_
    refine pk_le 2 (m - 2) (fun h => ?_) (fun h => ?_)
    · rw [if_neg (by omega), if_neg (by omega)] at H
      refine pk_eq (m - 2) 2 (fun e4 => ?_) (fun e4 => ?_)
      · rw [if_pos (by omega)] at H; exact H
      · rw [if_neg (by omega)] at H
        refine pk_eq (m - 2) 3 (fun e5 => ?_) (fun e5 => ?_)
        · rw [if_pos (by omega)] at H; exact H
        · rw [if_neg (by omega)] at H; exact H
    · refine pk_eq (m - 2) 0 (fun e2 => ?_) (fun e2 => ?_)
      · rw [if_pos (by omega)] at H; exact H
      · rw [if_neg (by omega), if_pos (by omega)] at H; exact H
theorem sa_signOf {post : Int32 → Prop} {x : Int32} (H : post (sa_sg x)) : wpX_signOf post x := by
  unfold sa_sg at H
  refine br_c (fun h => ?_) (fun h => ?_)
  · rw [if_pos h] at H
    refine br_c (fun h2 => ?_) (fun h2 => ?_)
    · rw [if_pos h2] at H; exact H
    · rw [if_neg h2] at H; exact H
  · rw [if_neg h] at H; exact H
end
def sa_lk (W R : Nat → Int32) (i : Nat) (x : Int32) (k : Nat) : Nat → Int32 := fun j => if j < k then sa_lr W R i x j else W j
theorem sa_lk_s (W R : Nat → Int32) (i : Nat) (x : Int32) (k : Nat) : upd (sa_lk W R i x k) k (sa_lk W R i x k k + sa_sg x * sa_sg (sa_pb R i (k + 1))) = sa_lk W R i x (k + 1) := by
  funext j
  by_cases e : j = k
  · subst e
    rw [pk_us]
    unfold sa_lk sa_lr
    rw [if_neg (by omega), if_pos (by omega)]
  · rw [pk_un e]
    unfold sa_lk
    by_cases h : j < k
    · rw [if_pos h, if_pos (by omega)]
    · rw [if_neg h, if_neg (by omega)]
section
variable {f_length f_size f_low f_outBits f_blocks f_source f_check : Int32} {a_left a_right a_bytes a_used a_turnedBit a_blockLeft a_blockRight a_otherLeft a_otherRight a_row a_residue a_weight a_out a_starts : Nat → Int32}
theorem sa_learn_l {post : SX → Prop} {x : Int32} (fr i : Nat) (hf : fr ≤ 16) (hi : i < 16) (W : Nat → Int32)
    (H : post (f_length, f_size, f_low, f_outBits, f_blocks, f_source, f_check, a_left, a_right, a_bytes, a_used, a_turnedBit, a_blockLeft, a_blockRight, a_otherLeft, a_otherRight, a_row, a_residue, sa_lk W (sa_ro a_row fr) i x 4, a_out, a_starts)) : ∀ (d k n : Nat), k + d = 4 → d < n →
    wX_learn_3 post (nI fr) (nI i) x f_length f_size f_low f_outBits f_blocks f_source f_check n (nI k) a_left a_right a_bytes a_used a_turnedBit a_blockLeft a_blockRight a_otherLeft a_otherRight a_row a_residue (sa_lk W (sa_ro a_row fr) i x k) a_out a_starts := by
  intro d
  induction d with
  | zero =>
    intro k n hk hn
    obtain ⟨n, rfl⟩ : ∃ m, n = m + 1 := ⟨n - 1, by omega⟩
    obtain rfl : k = 4 := by omega
    exact br_t (Int32.le_refl _) H
  | succ d ih =>
    intro k n hk hn
    obtain ⟨n, rfl⟩ : ∃ m, n = m + 1 := ⟨n - 1, by omega⟩
    refine br_f (nI_ge (b := 4) (by omega) (by omega)) (sa_before fr i (k + 1) hf hi (by omega) (by omega) (nI_1 k) ?_)
    refine ⟨vp_in_nI (by omega) (by omega), sa_signOf (sa_signOf ⟨vp_in_nI (by omega) (by omega), ?_⟩)⟩
    refine nm_r (e' := sa_lk W (sa_ro a_row fr) i x (k + 1)) ?_ (nm_r (nI_1 k) (ih (k + 1) n (by omega) (by omega)))
    rw [nI_clamp (by omega)]
    exact sa_lk_s _ _ _ _ _
theorem sa_learn {post : SX → Prop} {x : Int32} (fr i : Nat) (hf : fr ≤ 16) (hi : i < 16)
    (H : post (f_length, f_size, f_low, f_outBits, f_blocks, f_source, f_check, a_left, a_right, a_bytes, a_used, a_turnedBit, a_blockLeft, a_blockRight, a_otherLeft, a_otherRight, a_row, a_residue, sa_lk a_weight (sa_ro a_row fr) i x 4, a_out, a_starts)) : wpX_learn post (f_length, f_size, f_low, f_outBits, f_blocks, f_source, f_check, a_left, a_right, a_bytes, a_used, a_turnedBit, a_blockLeft, a_blockRight, a_otherLeft, a_otherRight, a_row, a_residue, a_weight, a_out, a_starts) (nI fr) (nI i) x := by
  have e : a_weight = sa_lk a_weight (sa_ro a_row fr) i x 0 := by
    funext j
    unfold sa_lk
    rw [if_neg (by omega)]
  refine ⟨5, ?_⟩
  have h := sa_learn_l fr i hf hi a_weight H 4 0 5 (by omega) (by omega)
  rw [← e] at h
  exact h
theorem sa_resetWeights {post : SX → Prop} (H : ∀ wt, (∀ m R k, k < 4 → wt k = sa_ws m R 0 k) → post (f_length, f_size, f_low, f_outBits, f_blocks, f_source, f_check, a_left, a_right, a_bytes, a_used, a_turnedBit, a_blockLeft, a_blockRight, a_otherLeft, a_otherRight, a_row, a_residue, wt, a_out, a_starts)) : wpX_resetWeights post (f_length, f_size, f_low, f_outBits, f_blocks, f_source, f_check, a_left, a_right, a_bytes, a_used, a_turnedBit, a_blockLeft, a_blockRight, a_otherLeft, a_otherRight, a_row, a_residue, a_weight, a_out, a_starts) := by
  refine nm_e (nm_e (nm_e (nm_e (H _ ?_))))
  intro m R k hk
  show _ = if k = 0 then 64 else 0
  obtain rfl | rfl | rfl | rfl : k = 0 ∨ k = 1 ∨ k = 2 ∨ k = 3 := by omega
  · rw [pk_un (by omega), pk_un (by omega), pk_un (by omega), pk_us]; rfl
  · rw [pk_un (by omega), pk_un (by omega), pk_us]; rfl
  · rw [pk_un (by omega), pk_us]; rfl
  · rw [pk_us]; rfl
theorem sa_ws_s7 {R wt : Nat → Int32} {i : Nat} (hw : ∀ k, k < 4 → wt k = sa_ws 7 R i k) : ∀ k, k < 4 → sa_lk wt R i (sa_rs 7 R i) 4 k = sa_ws 7 R (i + 1) k := by
  intro k hk
  unfold sa_lk
  rw [if_pos hk]
  show _ = sa_lr (sa_ws 7 R i) R i (sa_rs 7 R i) k
  exact sa_lr_c (fun _ _ => rfl) (hw k hk)
theorem sa_ws_sn {m : Nat} {R wt : Nat → Int32} {i : Nat} (h : m ≠ 7) (hw : ∀ k, k < 4 → wt k = sa_ws m R i k) : ∀ k, k < 4 → wt k = sa_ws m R (i + 1) k := by
  intro k hk
  show _ = (if m = 7 then sa_lr (sa_ws m R i) R i (R i - sa_fw m (sa_ws m R i) R i) else sa_ws m R i) k
  rw [if_neg h]
  exact hw k hk
theorem sa_findResidue_l {post : SX → Prop} (fr m sz : Nat) (hf : fr ≤ 16) (hz : sz ≤ 16) (h2 : 2 ≤ m) (h7 : m ≤ 7)
    (H : ∀ res wt, (∀ j, j < sz → res j = sa_rs m (sa_ro a_row fr) j) → post (f_length, nI sz, f_low, f_outBits, f_blocks, f_source, f_check, a_left, a_right, a_bytes, a_used, a_turnedBit, a_blockLeft, a_blockRight, a_otherLeft, a_otherRight, a_row, res, wt, a_out, a_starts)) :
    ∀ (d i n : Nat) (res wt : Nat → Int32), i + d = sz → d < n → (∀ j, j < i → res j = sa_rs m (sa_ro a_row fr) j) → (∀ k, k < 4 → wt k = sa_ws m (sa_ro a_row fr) i k) →
    wX_findResidue_6 post (nI fr) (nI m) n (nI i) f_length (nI sz) f_low f_outBits f_blocks f_source f_check a_left a_right a_bytes a_used a_turnedBit a_blockLeft a_blockRight a_otherLeft a_otherRight a_row res wt a_out a_starts := by
  intro d
  induction d with
  | zero =>
    intro i n res wt hi hn hr hw
    obtain ⟨n, rfl⟩ : ∃ m, n = m + 1 := ⟨n - 1, by omega⟩
    obtain rfl : i = sz := by omega
    exact br_t (Int32.le_refl _) (H res wt hr)
  | succ d ih =>
    intro i n res wt hi hn hr hw
    obtain ⟨n, rfl⟩ : ∃ m, n = m + 1 := ⟨n - 1, by omega⟩
    have hr' : ∀ j, j < i + 1 → upd res i (sa_rs m (sa_ro a_row fr) i) j = sa_rs m (sa_ro a_row fr) j := by
      intro j hj
      by_cases e : j = i
      · rw [e, pk_us]
      · rw [pk_un e]; exact hr j (by omega)
    refine br_f (nI_ge (by omega) (by omega)) ⟨by rw [nI_add]; exact vp_in_nI (by omega) (by omega), sa_foretold fr i m hf (by omega) h2 h7 ⟨vp_in_nI (by omega) (by omega), ?_⟩⟩
    refine nm_r (e' := upd res i (sa_rs m (sa_ro a_row fr) i)) (by
      rw [nI_add, nI_clamp (by omega), nI_clamp (by omega), sa_fw_c (fun _ _ => rfl) hw]
      rfl) ?_
    refine pk_eq m 7 (fun e => ?_) (fun e => ?_)
    · subst e
      refine ⟨vp_in_nI (by omega) (by omega), ?_⟩
      rw [nI_clamp (by omega), pk_us]
      refine sa_learn fr i hf (by omega) (nm_r (nI_1 i) ?_)
      exact ih (i + 1) n _ _ (by omega) (by omega) hr' (sa_ws_s7 hw)
    · exact nm_r (nI_1 i) (ih (i + 1) n _ _ (by omega) (by omega) hr' (sa_ws_sn e hw))
theorem sa_findResidue {post : SX → Prop} (fr m sz : Nat) (hf : fr ≤ 16) (hz : sz ≤ 16) (h2 : 2 ≤ m) (h7 : m ≤ 7)
    (H : ∀ res wt, (∀ j, j < sz → res j = sa_rs m (sa_ro a_row fr) j) → post (f_length, nI sz, f_low, f_outBits, f_blocks, f_source, f_check, a_left, a_right, a_bytes, a_used, a_turnedBit, a_blockLeft, a_blockRight, a_otherLeft, a_otherRight, a_row, res, wt, a_out, a_starts)) :
    wpX_findResidue post (f_length, nI sz, f_low, f_outBits, f_blocks, f_source, f_check, a_left, a_right, a_bytes, a_used, a_turnedBit, a_blockLeft, a_blockRight, a_otherLeft, a_otherRight, a_row, a_residue, a_weight, a_out, a_starts) (nI fr) (nI m) := by
  unfold wpX_findResidue
  dsimp only
  refine sa_resetWeights (fun wt hw => ?_)
  refine ⟨sz + 1, ?_⟩
  exact sa_findResidue_l fr m sz hf hz h2 h7 H sz 0 (sz + 1) a_residue wt (by omega) (by omega) (fun j hj => absurd hj (by omega)) (fun k hk => hw m _ k hk)
/-! left and right as two rows -/
theorem sa_mr59 {post : SX → Prop} {J : Int32 → (Nat → Int32) → (Nat → Int32) → (Nat → Int32) → (Nat → Int32) → (Nat → Int32) → (Nat → Int32) → (Nat → Int32) → (Nat → Int32) → (Nat → Int32) → (Nat → Int32) → (Nat → Int32) → (Nat → Int32) → (Nat → Int32) → (Nat → Int32) → Prop}
    {l r v : Int32} (w i : Nat) (hw : w < 4) (hi : i < 16)
    (H : J (nI (i + 1)) a_left a_right a_bytes a_used a_turnedBit a_blockLeft a_blockRight a_otherLeft a_otherRight (upd (upd a_row i v) (16 + i) (sa_m1 w l r)) a_residue a_weight a_out a_starts) : wX_makeRows_59 post J (nI w) (nI i) l r v (nI i) f_length f_size f_low f_outBits f_blocks f_source f_check a_left a_right a_bytes a_used a_turnedBit a_blockLeft a_blockRight a_otherLeft a_otherRight a_row a_residue a_weight a_out a_starts := by
  have e16 : (16 : Int32) + nI i = nI (16 + i) := nI_add 16 i
  refine ⟨vp_in_nI (by omega) (by omega), nm_r (e' := upd a_row i v) (by rw [nI_clamp (by omega)]) ?_⟩
  unfold sa_m1 at H
  refine pk_eq w 0 (fun e => ?_) (fun e => ?_)
  · rw [if_pos e] at H
    refine ⟨by rw [e16]; exact vp_in_nI (by omega) (by omega), nm_r (by rw [e16, nI_clamp (by omega)]) (nm_r (nI_1 i) H)⟩
  · rw [if_neg e] at H
    refine ⟨by rw [e16]; exact vp_in_nI (by omega) (by omega), nm_r (by rw [e16, nI_clamp (by omega)]) (nm_r (nI_1 i) H)⟩
theorem sa_makeRows_l {post : SX → Prop} (w sz : Nat) (hw : w < 4) (hz : sz ≤ 16)
    (H : ∀ ro, (∀ j, j < sz → ro j = sa_m0 w (a_blockLeft j) (a_blockRight j) ∧ ro (16 + j) = sa_m1 w (a_blockLeft j) (a_blockRight j)) → post (f_length, nI sz, f_low, f_outBits, f_blocks, f_source, f_check, a_left, a_right, a_bytes, a_used, a_turnedBit, a_blockLeft, a_blockRight, a_otherLeft, a_otherRight, ro, a_residue, a_weight, a_out, a_starts)) :
    ∀ (d i n : Nat) (ro : Nat → Int32), i + d = sz → d < n → (∀ j, j < i → ro j = sa_m0 w (a_blockLeft j) (a_blockRight j) ∧ ro (16 + j) = sa_m1 w (a_blockLeft j) (a_blockRight j)) →
    wX_makeRows_2 post (nI w) f_length (nI sz) f_low f_outBits f_blocks f_source f_check n (nI i) a_left a_right a_bytes a_used a_turnedBit a_blockLeft a_blockRight a_otherLeft a_otherRight ro a_residue a_weight a_out a_starts := by
  intro d
  induction d with
  | zero =>
    intro i n ro hi hn hr
    obtain ⟨n, rfl⟩ : ∃ m, n = m + 1 := ⟨n - 1, by omega⟩
    obtain rfl : i = sz := by omega
    exact br_t (Int32.le_refl _) (H ro hr)
  | succ d ih =>
    intro i n ro hi hn hr
    obtain ⟨n, rfl⟩ : ∃ m, n = m + 1 := ⟨n - 1, by omega⟩
    have K : wX_makeRows_2 post (nI w) f_length (nI sz) f_low f_outBits f_blocks f_source f_check n (nI (i + 1)) a_left a_right a_bytes a_used a_turnedBit a_blockLeft a_blockRight a_otherLeft a_otherRight (upd (upd ro i (sa_m0 w (a_blockLeft i) (a_blockRight i))) (16 + i) (sa_m1 w (a_blockLeft i) (a_blockRight i))) a_residue a_weight a_out a_starts := by
      refine ih (i + 1) n _ (by omega) (by omega) ?_
      intro j hj
      by_cases e : j = i
      · subst e
        exact ⟨by rw [pk_un (by omega), pk_us], by rw [pk_us]⟩
      · rw [pk_un (by omega), pk_un (by omega), pk_un (by omega), pk_un (by omega)]
        exact hr j (by omega)
    refine br_f (nI_ge (by omega) (by omega)) ⟨vp_in_nI (by omega) (by omega), nm_r (e' := a_blockLeft i) (by rw [nI_clamp (by omega)]) ⟨vp_in_nI (by omega) (by omega), nm_r (e' := a_blockRight i) (by rw [nI_clamp (by omega)]) ?_⟩⟩
    unfold sa_m0 at K
    refine pk_eq w 0 (fun e0 => ?_) (fun e0 => ?_)
    · rw [if_pos e0] at K
      exact sa_mr59 w i hw (by omega) K
    · rw [if_neg e0] at K
      refine pk_eq w 2 (fun e2 => ?_) (fun e2 => ?_)
      · rw [if_pos e2] at K
        exact sa_mr59 w i hw (by omega) K
      · rw [if_neg e2] at K
        refine pk_eq w 1 (fun e1 => ?_) (fun e1 => ?_)
        · rw [if_pos e1] at K
          exact sa_mr59 w i hw (by omega) K
        · rw [if_neg e1] at K
          exact sa_mr59 w i hw (by omega) K
theorem sa_makeRows {post : SX → Prop} (w sz : Nat) (hw : w < 4) (hz : sz ≤ 16)
    (H : ∀ ro, (∀ j, j < sz → ro j = sa_m0 w (a_blockLeft j) (a_blockRight j) ∧ ro (16 + j) = sa_m1 w (a_blockLeft j) (a_blockRight j)) → post (f_length, nI sz, f_low, f_outBits, f_blocks, f_source, f_check, a_left, a_right, a_bytes, a_used, a_turnedBit, a_blockLeft, a_blockRight, a_otherLeft, a_otherRight, ro, a_residue, a_weight, a_out, a_starts)) :
    wpX_makeRows post (f_length, nI sz, f_low, f_outBits, f_blocks, f_source, f_check, a_left, a_right, a_bytes, a_used, a_turnedBit, a_blockLeft, a_blockRight, a_otherLeft, a_otherRight, a_row, a_residue, a_weight, a_out, a_starts) (nI w) :=
  ⟨sz + 1, sa_makeRows_l w sz hw hz H sz 0 (sz + 1) a_row (by omega) (by omega) (fun j hj => absurd hj (by omega))⟩
theorem sa_takeRows_l {post : SX → Prop} (w sz : Nat) (hw : w < 4) (hz : sz ≤ 16)
    (H : ∀ bl br, (∀ j, j < sz → bl j = sa_t0 w (a_row j) (a_row (16 + j)) ∧ br j = sa_t1 w (a_row j) (a_row (16 + j))) → post (f_length, nI sz, f_low, f_outBits, f_blocks, f_source, f_check, a_left, a_right, a_bytes, a_used, a_turnedBit, bl, br, a_otherLeft, a_otherRight, a_row, a_residue, a_weight, a_out, a_starts)) :
    ∀ (d i n : Nat) (bl br : Nat → Int32), i + d = sz → d < n → (∀ j, j < i → bl j = sa_t0 w (a_row j) (a_row (16 + j)) ∧ br j = sa_t1 w (a_row j) (a_row (16 + j))) →
    wX_takeRows_2 post (nI w) f_length (nI sz) f_low f_outBits f_blocks f_source f_check n (nI i) a_left a_right a_bytes a_used a_turnedBit bl br a_otherLeft a_otherRight a_row a_residue a_weight a_out a_starts := by
  intro d
  induction d with
  | zero =>
    intro i n bl br hi hn hr
    obtain ⟨n, rfl⟩ : ∃ m, n = m + 1 := ⟨n - 1, by omega⟩
    obtain rfl : i = sz := by omega
    exact br_t (Int32.le_refl _) (H bl br hr)
  | succ d ih =>
    intro i n bl br hi hn hr
    obtain ⟨n, rfl⟩ : ∃ m, n = m + 1 := ⟨n - 1, by omega⟩
    have e16 : (16 : Int32) + nI i = nI (16 + i) := nI_add 16 i
    have K : wX_takeRows_2 post (nI w) f_length (nI sz) f_low f_outBits f_blocks f_source f_check n (nI (i + 1)) a_left a_right a_bytes a_used a_turnedBit (upd bl i (sa_t0 w (a_row i) (a_row (16 + i)))) (upd br i (sa_t1 w (a_row i) (a_row (16 + i)))) a_otherLeft a_otherRight a_row a_residue a_weight a_out a_starts := by
      refine ih (i + 1) n _ _ (by omega) (by omega) ?_
      intro j hj
      by_cases e : j = i
      · subst e
        exact ⟨by rw [pk_us], by rw [pk_us]⟩
      · rw [pk_un e, pk_un e]
        exact hr j (by omega)
    have hin : vp_in (nI i) 16 := vp_in_nI (by omega) (by omega)
    refine br_f (nI_ge (by omega) (by omega)) ⟨vp_in_nI (by omega) (by omega), nm_r (e' := a_row i) (by rw [nI_clamp (by omega)]) ⟨by rw [e16]; exact vp_in_nI (by omega) (by omega), nm_r (e' := a_row (16 + i)) (by rw [e16, nI_clamp (by omega)]) ?_⟩⟩
    unfold sa_t0 sa_t1 at K
    refine pk_eq w 0 (fun e0 => ?_) (fun e0 => ?_)
    · rw [if_pos e0, if_pos e0] at K
      exact ⟨hin, nm_r (by rw [nI_clamp (by omega)]) ⟨hin, nm_r (by rw [nI_clamp (by omega)]) (nm_r (nI_1 i) K)⟩⟩
    · rw [if_neg e0, if_neg e0] at K
      refine pk_eq w 1 (fun e1 => ?_) (fun e1 => ?_)
      · rw [if_pos e1, if_pos e1] at K
        exact nm_e ⟨hin, nm_r (by rw [nI_clamp (by omega)]) ⟨hin, nm_r (by rw [nI_clamp (by omega)]) (nm_r (nI_1 i) K)⟩⟩
      · rw [if_neg e1, if_neg e1] at K
        refine pk_eq w 2 (fun e2 => ?_) (fun e2 => ?_)
        · rw [if_pos e2, if_pos e2] at K
          refine ⟨hin, nm_r (by rw [nI_clamp (by omega)]) (br_t (by rw [e2]; rfl) ⟨hin, nm_r (by rw [nI_clamp (by omega)]) (nm_r (nI_1 i) K)⟩)⟩
        · rw [if_neg e2, if_neg e2] at K
          refine ⟨hin, nm_r (by rw [nI_clamp (by omega)]) (br_f (fun z => e2 ((nI_eq (b := 2) (by omega) (by omega)).mp z)) ⟨hin, nm_r (by rw [nI_clamp (by omega)]) (nm_r (nI_1 i) K)⟩)⟩
theorem sa_takeRows {post : SX → Prop} (w sz : Nat) (hw : w < 4) (hz : sz ≤ 16)
    (H : ∀ bl br, (∀ j, j < sz → bl j = sa_t0 w (a_row j) (a_row (16 + j)) ∧ br j = sa_t1 w (a_row j) (a_row (16 + j))) → post (f_length, nI sz, f_low, f_outBits, f_blocks, f_source, f_check, a_left, a_right, a_bytes, a_used, a_turnedBit, bl, br, a_otherLeft, a_otherRight, a_row, a_residue, a_weight, a_out, a_starts)) :
    wpX_takeRows post (f_length, nI sz, f_low, f_outBits, f_blocks, f_source, f_check, a_left, a_right, a_bytes, a_used, a_turnedBit, a_blockLeft, a_blockRight, a_otherLeft, a_otherRight, a_row, a_residue, a_weight, a_out, a_starts) (nI w) :=
  ⟨sz + 1, sa_takeRows_l w sz hw hz H sz 0 (sz + 1) a_blockLeft a_blockRight (by omega) (by omega) (fun j hj => absurd hj (by omega))⟩
end
end
section
/-! what a row costs -/
def sa_cb (r : Nat → Int32) (b : Nat) : Nat → Nat
  | 0 => 4
  | i + 1 => sa_cb r b i + (sa_fo (r i) / 2 ^ b + 1 + b)
def sa_be (r : Nat → Int32) (sz : Nat) : Nat → Nat
  | 0 => 1000000
  | k + 1 => if sa_be r sz k ≤ sa_cb r k sz then sa_be r sz k else sa_cb r k sz
theorem sa_cb_c {r q : Nat → Int32} (b : Nat) : ∀ i, (∀ j, j < i → r j = q j) → sa_cb r b i = sa_cb q b i
  | 0, _ => rfl
  | i + 1, h => by
    show sa_cb r b i + (sa_fo (r i) / 2 ^ b + 1 + b) = sa_cb q b i + (sa_fo (q i) / 2 ^ b + 1 + b)
    rw [h i (by omega), sa_cb_c b i (fun j hj => h j (by omega))]
theorem sa_be_c {r q : Nat → Int32} {sz : Nat} (h : ∀ j, j < sz → r j = q j) : ∀ k, sa_be r sz k = sa_be q sz k
  | 0 => rfl
  | k + 1 => by
    show (if sa_be r sz k ≤ sa_cb r k sz then sa_be r sz k else sa_cb r k sz) = (if sa_be q sz k ≤ sa_cb q k sz then sa_be q sz k else sa_cb q k sz)
    rw [sa_be_c h k, sa_cb_c k sz h]
theorem sa_be_le (r : Nat → Int32) (sz : Nat) : ∀ k, sa_be r sz k ≤ 1000000
  | 0 => Nat.le_refl _
  | k + 1 => by
    have ih := sa_be_le r sz k
    show (if sa_be r sz k ≤ sa_cb r k sz then sa_be r sz k else sa_cb r k sz) ≤ _
    split <;> omega
theorem sa_cb_bd {r : Nat → Int32} {b : Nat} (hb : b < 16) : ∀ i, (∀ j, j < i → sa_bd (r j) 1400000) → sa_cb r b i ≤ 4 + i * 2800016
  | 0, _ => by show 4 ≤ _; omega
  | i + 1, h => by
    have ih := sa_cb_bd hb i (fun j hj => h j (by omega))
    have h1 := sa_fo_bd (h i (by omega))
    have h2 : sa_fo (r i) / 2 ^ b ≤ sa_fo (r i) := Nat.div_le_self _ _
    show sa_cb r b i + (sa_fo (r i) / 2 ^ b + 1 + b) ≤ _
    omega
theorem sa_cb_q {r : Nat → Int32} {b : Nat} : ∀ i j, j < i → sa_fo (r j) / 2 ^ b ≤ sa_cb r b i
  | 0, _, h => absurd h (by omega)
  | i + 1, j, h => by
    show _ ≤ sa_cb r b i + (sa_fo (r i) / 2 ^ b + 1 + b)
    by_cases e : j = i
    · rw [e]; omega
    · exact Nat.le_trans (sa_cb_q (r := r) (b := b) i j (by omega)) (Nat.le_add_right _ _)
theorem sa_eS_len (r : Nat → Int32) (lo : Nat) : ∀ k i, (sa_eS r lo i k).length + sa_cb r lo i = sa_cb r lo (i + k)
  | 0, i => by show 0 + _ = _; rw [Nat.zero_add, Nat.add_zero]
  | k + 1, i => by
    have ih := sa_eS_len r lo k (i + 1)
    show (sa_eF (r i) lo ++ sa_eS r lo (i + 1) k).length + _ = _
    rw [List.length_append, sa_eF_len, show i + (k + 1) = i + 1 + k from by omega, ← ih]
    show _ = _ + (sa_cb r lo i + (sa_fo (r i) / 2 ^ lo + 1 + lo))
    omega
def sa_CR (sz : Nat) (R : Nat → Int32) (m c : Nat) : Prop :=
  c ≤ 1000000 ∧ (m = 0 → (c = 14 ∧ ∀ i, i < sz → R i = R 0) ∨ c = 1000000) ∧ (m = 1 → c = 14 * sz) ∧ (2 ≤ m → c = sa_be (sa_rs m R) sz 16)
section
variable {f_length f_size f_low f_outBits f_blocks f_source f_check : Int32} {a_left a_right a_bytes a_used a_turnedBit a_blockLeft a_blockRight a_otherLeft a_otherRight a_row a_residue a_weight a_out a_starts : Nat → Int32}
theorem sa_cost16 {post : Int32 → SX → Prop} {J5 : Int32 → Int32 → Int32 → Prop} (b sz be : Nat) (hb : b < 16) (hz : sz ≤ 16) (hbe : be < 2 ^ 30) (hr : ∀ j, j < sz → sa_bd (a_residue j) 1400000)
    (H1 : be ≤ sa_cb a_residue b sz → J5 (nI be) (nI (b + 1)) f_low) (H2 : sa_cb a_residue b sz < be → J5 (nI (sa_cb a_residue b sz)) (nI (b + 1)) (nI b)) :
    ∀ (d i n : Nat), i + d = sz → d < n → wX_costOfResidue_16 post J5 (nI be) (nI b) f_length (nI sz) f_low f_outBits f_blocks f_source f_check a_left a_right a_bytes a_used a_turnedBit a_blockLeft a_blockRight a_otherLeft a_otherRight a_row a_residue a_weight a_out a_starts n (nI (sa_cb a_residue b i)) (nI i) := by
  intro d
  induction d with
  | zero =>
    intro i n hi hn
    obtain ⟨n, rfl⟩ : ∃ m, n = m + 1 := ⟨n - 1, by omega⟩
    obtain rfl : i = sz := by omega
    have hc := sa_cb_bd hb i hr
    exact br_t (Int32.le_refl _) (pk_le be (sa_cb a_residue b i) (fun h => nm_r (nI_1 b) (H1 h)) (fun h => nm_r (nI_1 b) (H2 h)))
  | succ d ih =>
    intro i n hi hn
    obtain ⟨n, rfl⟩ : ∃ m, n = m + 1 := ⟨n - 1, by omega⟩
    have hri : (a_residue i).toInt.natAbs ≤ 1400000 := hr i (by omega)
    have hf := sa_fo_bd hri
    refine br_f (nI_ge (by omega) (by omega)) ⟨vp_in_nI (by omega) (by omega), ?_⟩
    rw [nI_clamp (by omega)]
    refine sa_folded (by omega) (nm_r (e' := nI (sa_cb a_residue b (i + 1))) ?_ (nm_r (nI_1 i) (ih (i + 1) n (by omega) (by omega))))
    rw [pk_shrN (by omega) _ b (s_l b (by omega)), nI_1, nI_add, nI_add]
    rfl
theorem sa_cost5 {post : Int32 → SX → Prop} (sz : Nat) (hz : sz ≤ 16) (hr : ∀ j, j < sz → sa_bd (a_residue j) 1400000)
    (H : ∀ low, (sa_be a_residue sz 16 < 1000000 → ∃ lo, lo < 16 ∧ low = nI lo ∧ sa_cb a_residue lo sz = sa_be a_residue sz 16) → post (nI (sa_be a_residue sz 16)) (f_length, nI sz, low, f_outBits, f_blocks, f_source, f_check, a_left, a_right, a_bytes, a_used, a_turnedBit, a_blockLeft, a_blockRight, a_otherLeft, a_otherRight, a_row, a_residue, a_weight, a_out, a_starts)) :
    ∀ (d k n : Nat) (low : Int32), k + d = 16 → d < n → (sa_be a_residue sz k < 1000000 → ∃ lo, lo < 16 ∧ low = nI lo ∧ sa_cb a_residue lo sz = sa_be a_residue sz k) →
    wX_costOfResidue_5 post f_length (nI sz) f_outBits f_blocks f_source f_check a_left a_right a_bytes a_used a_turnedBit a_blockLeft a_blockRight a_otherLeft a_otherRight a_row a_residue a_weight a_out a_starts n (nI (sa_be a_residue sz k)) (nI k) low := by
  intro d
  induction d with
  | zero =>
    intro k n low hk hn hl
    obtain ⟨n, rfl⟩ : ∃ m, n = m + 1 := ⟨n - 1, by omega⟩
    obtain rfl : k = 16 := by omega
    exact br_t (Int32.le_refl _) (H low hl)
  | succ d ih =>
    intro k n low hk hn hl
    obtain ⟨n, rfl⟩ : ∃ m, n = m + 1 := ⟨n - 1, by omega⟩
    have hle := sa_be_le a_residue sz k
    refine br_f (nI_ge (b := 16) (by omega) (by omega)) ⟨sz + 1, sa_cost16 k sz (sa_be a_residue sz k) (by omega) hz (by omega) hr (fun h => ?_) (fun h => ?_) sz 0 (sz + 1) (by omega) (by omega)⟩
    · have e : sa_be a_residue sz (k + 1) = sa_be a_residue sz k := if_pos h
      have := ih (k + 1) n low (by omega) (by omega) (by rw [e]; exact hl)
      rw [e] at this
      exact this
    · have e : sa_be a_residue sz (k + 1) = sa_cb a_residue k sz := if_neg (by omega)
      have := ih (k + 1) n (nI k) (by omega) (by omega) (fun _ => ⟨k, by omega, rfl, e.symm⟩)
      rw [e] at this
      exact this
theorem sa_costOfResidue {post : Int32 → SX → Prop} (sz : Nat) (hz : sz ≤ 16) (hr : ∀ j, j < sz → sa_bd (a_residue j) 1400000)
    (H : ∀ low, (sa_be a_residue sz 16 < 1000000 → ∃ lo, lo < 16 ∧ low = nI lo ∧ sa_cb a_residue lo sz = sa_be a_residue sz 16) → post (nI (sa_be a_residue sz 16)) (f_length, nI sz, low, f_outBits, f_blocks, f_source, f_check, a_left, a_right, a_bytes, a_used, a_turnedBit, a_blockLeft, a_blockRight, a_otherLeft, a_otherRight, a_row, a_residue, a_weight, a_out, a_starts)) :
    wpX_costOfResidue post (f_length, nI sz, f_low, f_outBits, f_blocks, f_source, f_check, a_left, a_right, a_bytes, a_used, a_turnedBit, a_blockLeft, a_blockRight, a_otherLeft, a_otherRight, a_row, a_residue, a_weight, a_out, a_starts) :=
  ⟨17, sa_cost5 sz hz hr H 16 0 17 f_low (by omega) (by omega) (fun h => absurd h (Nat.lt_irrefl _))⟩
theorem sa_isOne_l {post : Int32 → Prop} (fr sz : Nat) (hf : fr ≤ 16) (hz : sz ≤ 16) (H1 : (∀ i, i < sz → sa_ro a_row fr i = sa_ro a_row fr 0) → post 1) (H0 : post 0) :
    ∀ (d i n : Nat), sz ≤ i + d → d < n → i ≤ 16 → (∀ j, j < i → j < sz → sa_ro a_row fr j = sa_ro a_row fr 0) → wX_isOne_2 post (nI fr) f_length (nI sz) f_low f_outBits f_blocks f_source f_check a_left a_right a_bytes a_used a_turnedBit a_blockLeft a_blockRight a_otherLeft a_otherRight a_row a_residue a_weight a_out a_starts n (nI i) := by
  intro d
  induction d with
  | zero =>
    intro i n hi hn hi16 h
    obtain ⟨n, rfl⟩ : ∃ m, n = m + 1 := ⟨n - 1, by omega⟩
    exact br_t (nI_le (by omega) (by omega)) (H1 (fun j hj => h j (by omega) hj))
  | succ d ih =>
    intro i n hi hn hi16 h
    obtain ⟨n, rfl⟩ : ∃ m, n = m + 1 := ⟨n - 1, by omega⟩
    refine pk_le sz i (fun hs => H1 (fun j hj => h j (by omega) hj)) (fun hs => ?_)
    rw [nI_add, nI_clamp (by omega), nI_clamp (by omega)]
    refine ⟨vp_in_nI (by omega) (by omega), vp_in_nI (by omega) (by omega), br_c (fun e => ?_) (fun _ => H0)⟩
    refine nm_r (nI_1 i) (ih (i + 1) n (by omega) (by omega) (by omega) ?_)
    intro j hj hjs
    by_cases ej : j = i
    · rw [ej]; exact e
    · exact h j (by omega) hjs
theorem sa_isOne {post : Int32 → Prop} (fr sz : Nat) (hf : fr ≤ 16) (hz : sz ≤ 16) (H1 : (∀ i, i < sz → sa_ro a_row fr i = sa_ro a_row fr 0) → post 1) (H0 : post 0) :
    wpX_isOne post (f_length, nI sz, f_low, f_outBits, f_blocks, f_source, f_check, a_left, a_right, a_bytes, a_used, a_turnedBit, a_blockLeft, a_blockRight, a_otherLeft, a_otherRight, a_row, a_residue, a_weight, a_out, a_starts) (nI fr) :=
  ⟨17, sa_isOne_l fr sz hf hz H1 H0 16 1 17 (by omega) (by omega) (by omega) (fun j hj _ => by rw [show j = 0 from by omega])⟩
theorem sa_costOf {post : Int32 → SX → Prop} (fr m sz : Nat) (hf : fr ≤ 16) (hm : m ≤ 7) (hz : sz ≤ 16) (hR : ∀ j, j < sz → sa_bd (sa_ro a_row fr j) 4096)
    (H : ∀ (c : Nat) (low : Int32) (res wt : Nat → Int32), sa_CR sz (sa_ro a_row fr) m c →
      (2 ≤ m → (∀ j, j < sz → res j = sa_rs m (sa_ro a_row fr) j) ∧ (c < 1000000 → ∃ lo, lo < 16 ∧ low = nI lo ∧ sa_cb (sa_rs m (sa_ro a_row fr)) lo sz = c)) →
      post (nI c) (f_length, nI sz, low, f_outBits, f_blocks, f_source, f_check, a_left, a_right, a_bytes, a_used, a_turnedBit, a_blockLeft, a_blockRight, a_otherLeft, a_otherRight, a_row, res, wt, a_out, a_starts)) :
    wpX_costOf post (f_length, nI sz, f_low, f_outBits, f_blocks, f_source, f_check, a_left, a_right, a_bytes, a_used, a_turnedBit, a_blockLeft, a_blockRight, a_otherLeft, a_otherRight, a_row, a_residue, a_weight, a_out, a_starts) (nI fr) (nI m) := by
  refine pk_eq m 0 (fun e0 => ?_) (fun e0 => ?_)
  · refine sa_isOne fr sz hf hz (fun h => ?_) ?_
    · refine br_f (by decide) (H 14 _ _ _ ⟨by omega, fun _ => Or.inl ⟨rfl, h⟩, fun z => absurd z (by omega), fun z => absurd z (by omega)⟩ (fun z => absurd z (by omega)))
    · refine br_t rfl (H 1000000 _ _ _ ⟨by omega, fun _ => Or.inr rfl, fun z => absurd z (by omega), fun z => absurd z (by omega)⟩ (fun z => absurd z (by omega)))
  · refine pk_eq m 1 (fun e1 => ?_) (fun e1 => ?_)
    · have h := H (14 * sz) f_low a_residue a_weight ⟨by omega, fun z => absurd z (by omega), fun _ => rfl, fun z => absurd z (by omega)⟩ (fun z => absurd z (by omega))
      rw [← pk_mul] at h
      exact h
    · refine sa_findResidue fr m sz hf hz (by omega) hm (fun res wt hr => ?_)
      try dsimp only
      refine sa_costOfResidue sz hz (fun j hj => ?_) (fun low hl => ?_)
      · rw [hr j hj]
        exact sa_rs_bd (by omega) (fun i hi => hR i (by omega))
      · refine H (sa_be res sz 16) low res wt ⟨sa_be_le _ _ _, fun z => absurd z (by omega), fun z => absurd z (by omega), fun _ => sa_be_c hr 16⟩ (fun _ => ⟨hr, fun hc => ?_⟩)
        obtain ⟨lo, h1, h2, h3⟩ := hl hc
        exact ⟨lo, h1, h2, by rw [← h3]; exact (sa_cb_c lo sz hr).symm⟩
theorem sa_isTried {post : Int32 → Prop} {x y : Int32} (H0 : post 0) (H1 : post 1) : wpX_isTried post x y := by
  have h18 : wX_isTried_18 post x y := br_c (fun _ => br_c (fun _ => H1) (fun _ => H0)) (fun _ => H0)
  exact br_c (fun _ => H1) (fun _ => br_c (fun _ => br_c (fun _ => H1) (fun _ => h18)) (fun _ => h18))
theorem sa_bestMethod_l {post : Int32 → SX → Prop} {ef : Int32} (fr sz : Nat) (hf : fr ≤ 16) (hz : sz ≤ 16) (hR : ∀ j, j < sz → sa_bd (sa_ro a_row fr j) 4096)
    (H : ∀ (B c : Nat) (low : Int32) (res wt : Nat → Int32), B ≤ 7 → sa_CR sz (sa_ro a_row fr) B c → c ≤ 14 * sz → post (nI B) (f_length, nI sz, low, f_outBits, f_blocks, f_source, f_check, a_left, a_right, a_bytes, a_used, a_turnedBit, a_blockLeft, a_blockRight, a_otherLeft, a_otherRight, a_row, res, wt, a_out, a_starts)) :
    ∀ (d k n B c : Nat) (low : Int32) (res wt : Nat → Int32), k + d = 8 → d < n → B ≤ 7 → sa_CR sz (sa_ro a_row fr) B c → c ≤ 14 * sz →
    wX_bestMethod_13 post (nI fr) ef n (nI B) (nI c) (nI k) f_length (nI sz) low f_outBits f_blocks f_source f_check a_left a_right a_bytes a_used a_turnedBit a_blockLeft a_blockRight a_otherLeft a_otherRight a_row res wt a_out a_starts := by
  intro d
  induction d with
  | zero =>
    intro k n B c low res wt hk hn hB hc h14
    obtain ⟨n, rfl⟩ : ∃ m, n = m + 1 := ⟨n - 1, by omega⟩
    exact br_t (nI_lt (a := 7) (by omega) (by omega)) (H B c low res wt hB hc h14)
  | succ d ih =>
    intro k n B c low res wt hk hn hB hc h14
    obtain ⟨n, rfl⟩ : ∃ m, n = m + 1 := ⟨n - 1, by omega⟩
    refine br_f (nI_nlt (a := 7) (by omega) (by omega)) (sa_isTried ?_ ?_)
    · refine br_t rfl ?_
      exact br_t (nI_le (b := 1000000) (by omega) (by omega)) (nm_r (nI_1 k) (ih (k + 1) n B c low res wt (by omega) (by omega) hB hc h14))
    · refine br_f (by decide) (sa_costOf fr k sz hf (by omega) hz hR (fun c' low' res' wt' hc' _ => ?_))
      have hc1 := hc'.1
      refine pk_le c c' (fun h => ?_) (fun h => ?_)
      · exact nm_r (nI_1 k) (ih (k + 1) n B c _ _ _ (by omega) (by omega) hB hc h14)
      · exact nm_r (nI_1 k) (ih (k + 1) n k c' _ _ _ (by omega) (by omega) (by omega) hc' (by omega))
theorem sa_bestMethod {post : Int32 → SX → Prop} {ef : Int32} (fr sz : Nat) (hf : fr ≤ 16) (hz : sz ≤ 16) (hR : ∀ j, j < sz → sa_bd (sa_ro a_row fr j) 4096)
    (H : ∀ (B c : Nat) (low : Int32) (res wt : Nat → Int32), B ≤ 7 → sa_CR sz (sa_ro a_row fr) B c → c ≤ 14 * sz → post (nI B) (f_length, nI sz, low, f_outBits, f_blocks, f_source, f_check, a_left, a_right, a_bytes, a_used, a_turnedBit, a_blockLeft, a_blockRight, a_otherLeft, a_otherRight, a_row, res, wt, a_out, a_starts)) :
    wpX_bestMethod post (f_length, nI sz, f_low, f_outBits, f_blocks, f_source, f_check, a_left, a_right, a_bytes, a_used, a_turnedBit, a_blockLeft, a_blockRight, a_otherLeft, a_otherRight, a_row, a_residue, a_weight, a_out, a_starts) (nI fr) ef := by
  unfold wpX_bestMethod
  dsimp only
  refine sa_costOf fr 1 sz hf (by omega) hz hR (fun c low res wt hc _ => ?_)
  try dsimp only
  have h14 := hc.2.2.1 rfl
  exact ⟨9, sa_bestMethod_l fr sz hf hz hR H 8 0 9 1 c low res wt (by omega) (by omega) (by omega) hc (by omega)⟩
theorem sa_rowbd {L R ro : Nat → Int32} {w sz : Nat} (hl : ∀ j, j < sz → sa_bd (L j) 2048 ∧ sa_bd (R j) 2048)
    (h : ∀ j, j < sz → ro j = sa_m0 w (L j) (R j) ∧ ro (16 + j) = sa_m1 w (L j) (R j)) :
    (∀ j, j < sz → sa_bd (sa_ro ro 0 j) 4096) ∧ (∀ j, j < sz → sa_bd (sa_ro ro 16 j) 4096) := by
  refine ⟨fun j hj => ?_, fun j hj => ?_⟩
  · show sa_bd (ro (0 + j)) 4096
    rw [Nat.zero_add, (h j hj).1]
    exact sa_m0_bd (hl j hj).1 (hl j hj).2
  · show sa_bd (ro (16 + j)) 4096
    rw [(h j hj).2]
    exact sa_m1_bd (hl j hj).1 (hl j hj).2
theorem sa_costOfWay {post : Int32 → SX → Prop} {ef : Int32} (w sz : Nat) (hw : w < 4) (hz : sz ≤ 16) (hl : ∀ j, j < sz → sa_bd (a_blockLeft j) 2048 ∧ sa_bd (a_blockRight j) 2048)
    (H : ∀ (r low : Int32) (ro res wt : Nat → Int32), post r (f_length, nI sz, low, f_outBits, f_blocks, f_source, f_check, a_left, a_right, a_bytes, a_used, a_turnedBit, a_blockLeft, a_blockRight, a_otherLeft, a_otherRight, ro, res, wt, a_out, a_starts)) :
    wpX_costOfWay post (f_length, nI sz, f_low, f_outBits, f_blocks, f_source, f_check, a_left, a_right, a_bytes, a_used, a_turnedBit, a_blockLeft, a_blockRight, a_otherLeft, a_otherRight, a_row, a_residue, a_weight, a_out, a_starts) (nI w) ef := by
  unfold wpX_costOfWay
  dsimp only
  refine sa_makeRows w sz hw hz (fun ro hro => ?_)
  try dsimp only
  have hb := sa_rowbd hl hro
  refine sa_bestMethod 0 sz (by omega) hz hb.1 (fun B c low res wt hB _ _ => ?_)
  try dsimp only
  refine sa_costOf 0 B sz (by omega) hB hz hb.1 (fun c' low' res' wt' _ _ => ?_)
  try dsimp only
  refine sa_bestMethod 16 sz (by omega) hz hb.2 (fun B2 c2 low2 res2 wt2 hB2 _ _ => ?_)
  try dsimp only
  refine sa_costOf 16 B2 sz (by omega) hB2 hz hb.2 (fun c3 low3 res3 wt3 _ _ => ?_)
  try dsimp only
  exact H _ _ _ _ _
end
end
section
/-! rows and blocks are written -/
section
variable {f_length f_size f_low f_outBits f_blocks f_source f_check : Int32} {a_left a_right a_bytes a_used a_turnedBit a_blockLeft a_blockRight a_otherLeft a_otherRight a_row a_residue a_weight a_out a_starts : Nat → Int32}
theorem sa_writeRow40 {post : SX → Prop} (fr sz : Nat) (hf : fr ≤ 16) (hz : sz ≤ 16) :
    ∀ (d i n p : Nat) (o : Nat → Int32), i + d = sz → d < n → p + 14 * d ≤ 3360 →
    post (f_length, nI sz, f_low, nI (p + 14 * d), f_blocks, f_source, f_check, a_left, a_right, a_bytes, a_used, a_turnedBit, a_blockLeft, a_blockRight, a_otherLeft, a_otherRight, a_row, a_residue, a_weight, sa_pL (sa_eA (sa_ro a_row fr) i d) o p, a_starts) →
    wX_writeRow_40 post (nI fr) n (nI i) f_length (nI sz) f_low (nI p) f_blocks f_source f_check a_left a_right a_bytes a_used a_turnedBit a_blockLeft a_blockRight a_otherLeft a_otherRight a_row a_residue a_weight o a_starts := by
  intro d
  induction d with
  | zero =>
    intro i n p o hi hn hp H
    obtain ⟨n, rfl⟩ : ∃ m, n = m + 1 := ⟨n - 1, by omega⟩
    obtain rfl : i = sz := by omega
    exact br_t (Int32.le_refl _) H
  | succ d ih =>
    intro i n p o hi hn hp H
    obtain ⟨n, rfl⟩ : ∃ m, n = m + 1 := ⟨n - 1, by omega⟩
    refine br_f (nI_ge (by omega) (by omega)) ?_
    rw [nI_add, nI_clamp (by omega)]
    refine ⟨vp_in_nI (by omega) (by omega), sa_putBits 14 p (by omega) (by omega) (nm_r (nI_1 i) (ih (i + 1) n (p + 14) _ (by omega) (by omega) (by omega) ?_))⟩
    have e : sa_pL (sa_eA (sa_ro a_row fr) i (d + 1)) o p = sa_pL (sa_eA (sa_ro a_row fr) (i + 1) d) (sa_pL (sa_bw (a_row (fr + i)) 14) o p) (p + 14) := by
      show sa_pL (sa_bw (a_row (fr + i)) 14 ++ sa_eA (sa_ro a_row fr) (i + 1) d) o p = _
      rw [sa_pL_app, sa_bw_len]
    rw [e, show p + 14 * (d + 1) = p + 14 + 14 * d from by omega] at H
    exact H
theorem sa_writeRow92 {post : SX → Prop} (lo sz : Nat) (hlo : lo < 16) (hz : sz ≤ 16) (hr : ∀ j, j < sz → sa_bd (a_residue j) 1400000) :
    ∀ (d i n p : Nat) (o : Nat → Int32), i + d = sz → d < n → p + (sa_eS a_residue lo i d).length ≤ 3360 →
    post (f_length, nI sz, nI lo, nI (p + (sa_eS a_residue lo i d).length), f_blocks, f_source, f_check, a_left, a_right, a_bytes, a_used, a_turnedBit, a_blockLeft, a_blockRight, a_otherLeft, a_otherRight, a_row, a_residue, a_weight, sa_pL (sa_eS a_residue lo i d) o p, a_starts) →
    wX_writeRow_92 post n (nI i) f_length (nI sz) (nI lo) (nI p) f_blocks f_source f_check a_left a_right a_bytes a_used a_turnedBit a_blockLeft a_blockRight a_otherLeft a_otherRight a_row a_residue a_weight o a_starts := by
  intro d
  induction d with
  | zero =>
    intro i n p o hi hn hp H
    obtain ⟨n, rfl⟩ : ∃ m, n = m + 1 := ⟨n - 1, by omega⟩
    obtain rfl : i = sz := by omega
    exact br_t (Int32.le_refl _) H
  | succ d ih =>
    intro i n p o hi hn hp H
    obtain ⟨n, rfl⟩ : ∃ m, n = m + 1 := ⟨n - 1, by omega⟩
    have e : sa_eS a_residue lo i (d + 1) = sa_eF (a_residue i) lo ++ sa_eS a_residue lo (i + 1) d := rfl
    rw [e, List.length_append] at hp H
    rw [sa_pL_app, ← Nat.add_assoc] at H
    have hri : (a_residue i).toInt.natAbs ≤ 1400000 := hr i (by omega)
    refine br_f (nI_ge (by omega) (by omega)) ?_
    rw [nI_clamp (by omega)]
    refine ⟨vp_in_nI (by omega) (by omega), sa_putFolded lo p (by omega) (by omega) (by omega) (nm_r (nI_1 i) (ih (i + 1) n _ _ (by omega) (by omega) (by omega) H))⟩
theorem sa_writeRow {post : SX → Prop} {ef : Int32} (fr sz p : Nat) (hf : fr ≤ 16) (hz : sz ≤ 16) (hz1 : 1 ≤ sz) (hR : ∀ j, j < sz → sa_bd (sa_ro a_row fr j) 4096) (hp : p + (3 + 14 * sz) ≤ 3360)
    (H : ∀ (l : List Bool) (low : Int32) (res wt : Nat → Int32), sa_ER sz (sa_ro a_row fr) l → l.length ≤ 3 + 14 * sz →
      post (f_length, nI sz, low, nI (p + l.length), f_blocks, f_source, f_check, a_left, a_right, a_bytes, a_used, a_turnedBit, a_blockLeft, a_blockRight, a_otherLeft, a_otherRight, a_row, res, wt, sa_pL l a_out p, a_starts)) :
    wpX_writeRow post (f_length, nI sz, f_low, nI p, f_blocks, f_source, f_check, a_left, a_right, a_bytes, a_used, a_turnedBit, a_blockLeft, a_blockRight, a_otherLeft, a_otherRight, a_row, a_residue, a_weight, a_out, a_starts) (nI fr) ef := by
  unfold wpX_writeRow
  dsimp only
  refine sa_bestMethod fr sz hf hz hR (fun B c low res wt hB hC hc => ?_)
  try dsimp only
  refine sa_putBits 3 p (by omega) (by omega) ?_
  try dsimp only
  refine pk_eq B 0 (fun e0 => ?_) (fun e0 => ?_)
  · subst e0
    have h0 : ∀ i, i < sz → sa_ro a_row fr i = sa_ro a_row fr 0 := by
      rcases hC.2.1 rfl with h | h
      · exact h.2
      · exact absurd h (by omega)
    rw [nI_clamp (by omega)]
    refine ⟨vp_in_nI (by omega) (by omega), sa_putBits 14 (p + 3) (by omega) (by omega) ?_⟩
    have h := H (sa_bw (nI 0) 3 ++ sa_bw (sa_ro a_row fr 0) 14) low res wt (Or.inl ⟨_, h0, rfl⟩) (by rw [List.length_append, sa_bw_len, sa_bw_len]; omega)
    rw [sa_pL_app, List.length_append, sa_bw_len, sa_bw_len, ← Nat.add_assoc] at h
    exact h
  · refine pk_eq B 1 (fun e1 => ?_) (fun e1 => ?_)
    · subst e1
      refine ⟨sz + 1, sa_writeRow40 fr sz hf hz sz 0 (sz + 1) (p + 3) _ (by omega) (by omega) (by omega) ?_⟩
      have h := H (sa_bw (nI 1) 3 ++ sa_eA (sa_ro a_row fr) 0 sz) low res wt (Or.inr (Or.inl rfl)) (by rw [List.length_append, sa_bw_len, sa_eA_len]; omega)
      rw [sa_pL_app, List.length_append, sa_bw_len, sa_eA_len, ← Nat.add_assoc] at h
      exact h
    · refine sa_costOf fr B sz hf hB hz hR (fun c' low' res' wt' hC' hh => ?_)
      try dsimp only
      have ec : c' = c := (hC'.2.2.2 (by omega)).trans (hC.2.2.2 (by omega)).symm
      subst ec
      obtain ⟨hr, hlo⟩ := hh (by omega)
      obtain ⟨lo, hl16, rfl, hcb⟩ := hlo (by omega)
      refine sa_putBits 4 (p + 3) (by omega) (by omega) ?_
      try dsimp only
      have hlen := sa_eS_len (sa_rs B (sa_ro a_row fr)) lo sz 0
      rw [Nat.zero_add, hcb] at hlen
      have h4 : sa_cb (sa_rs B (sa_ro a_row fr)) lo 0 = 4 := rfl
      rw [h4] at hlen
      have eS : sa_eS res' lo 0 sz = sa_eS (sa_rs B (sa_ro a_row fr)) lo 0 sz := sa_eS_c lo sz 0 (fun j _ hj => hr j (by omega))
      refine ⟨sz + 1, sa_writeRow92 lo sz hl16 hz (fun j hj => ?_) sz 0 (sz + 1) (p + 3 + 4) _ (by omega) (by omega) (by rw [eS]; omega) ?_⟩
      · rw [hr j hj]
        exact sa_rs_bd (by omega) (fun i hi => hR i (by omega))
      · rw [eS]
        have h := H (sa_bw (nI B) 3 ++ (sa_bw (nI lo) 4 ++ sa_eS (sa_rs B (sa_ro a_row fr)) lo 0 sz)) (nI lo) res' wt'
          (Or.inr (Or.inr ⟨B, lo, by omega, hB, hl16, fun i hi => Nat.lt_of_le_of_lt (sa_cb_q (r := sa_rs B (sa_ro a_row fr)) (b := lo) sz i hi) (by rw [hcb]; omega), rfl⟩))
          (by rw [List.length_append, List.length_append, sa_bw_len, sa_bw_len]; omega)
        rw [sa_pL_app, sa_pL_app, List.length_append, List.length_append, sa_bw_len, sa_bw_len, ← Nat.add_assoc, ← Nat.add_assoc] at h
        exact h
theorem sa_writeBlock51 {post : SX → Prop} {ef : Int32} (w sz p k : Nat) (hw : w < 4) (hz : sz ≤ 16) (hz1 : 1 ≤ sz) (hk : k < 6) (hp : p + 456 ≤ 3360) (hl : ∀ j, j < sz → sa_bd (a_blockLeft j) 2048 ∧ sa_bd (a_blockRight j) 2048)
    (H : ∀ (l : List Bool) (low : Int32) (ro res wt : Nat → Int32), sa_EB sz a_blockLeft a_blockRight l → l.length ≤ 456 →
      post (f_length, nI sz, low, nI (p + l.length), nI (k + 1), f_source, f_check, a_left, a_right, a_bytes, a_used, a_turnedBit, a_blockLeft, a_blockRight, a_otherLeft, a_otherRight, ro, res, wt, sa_pL l a_out p, upd a_starts k (nI p))) :
    wX_writeBlock_51 post ef (nI w) f_length (nI sz) f_low (nI p) (nI k) f_source f_check a_left a_right a_bytes a_used a_turnedBit a_blockLeft a_blockRight a_otherLeft a_otherRight a_row a_residue a_weight a_out a_starts := by
  refine ⟨vp_in_nI (by omega) (by omega), nm_r (e' := upd a_starts k (nI p)) (by rw [nI_clamp (by omega)]) (nm_r (nI_1 k) ?_)⟩
  refine sa_putBits 2 p (by omega) (by omega) ?_
  try dsimp only
  refine sa_makeRows w sz hw hz (fun ro hro => ?_)
  try dsimp only
  have hb := sa_rowbd hl hro
  refine sa_writeRow 0 sz (p + 2) (by omega) hz hz1 hb.1 (by omega) (fun l0 low0 res0 wt0 hE0 hl0 => ?_)
  try dsimp only
  refine sa_writeRow 16 sz (p + 2 + l0.length) (by omega) hz hz1 hb.2 (by omega) (fun l1 low1 res1 wt1 hE1 hl1 => ?_)
  try dsimp only
  have h := H (sa_bw (nI w) 2 ++ (l0 ++ l1)) low1 ro res1 wt1 ⟨w, l0, l1, hw, sa_ER_c (fun j hj => by
      show ro (0 + j) = _
      rw [Nat.zero_add, (hro j hj).1]) hE0, sa_ER_c (fun j hj => (hro j hj).2) hE1, rfl⟩ (by rw [List.length_append, List.length_append, sa_bw_len]; omega)
  rw [sa_pL_app, sa_pL_app, List.length_append, List.length_append, sa_bw_len, ← Nat.add_assoc, ← Nat.add_assoc] at h
  exact h
theorem sa_writeBlock12 {post : SX → Prop} {ef : Int32} (sz p k : Nat) (hz : sz ≤ 16) (hz1 : 1 ≤ sz) (hk : k < 6) (hp : p + 456 ≤ 3360) (hl : ∀ j, j < sz → sa_bd (a_blockLeft j) 2048 ∧ sa_bd (a_blockRight j) 2048)
    (H : ∀ (l : List Bool) (low : Int32) (ro res wt : Nat → Int32), sa_EB sz a_blockLeft a_blockRight l → l.length ≤ 456 →
      post (f_length, nI sz, low, nI (p + l.length), nI (k + 1), f_source, f_check, a_left, a_right, a_bytes, a_used, a_turnedBit, a_blockLeft, a_blockRight, a_otherLeft, a_otherRight, ro, res, wt, sa_pL l a_out p, upd a_starts k (nI p))) :
    ∀ (d v n w : Nat) (x low : Int32) (ro res wt : Nat → Int32), v + d = 4 → d < n → w < 4 →
    wX_writeBlock_12 post ef n (nI w) x (nI v) f_length (nI sz) low (nI p) (nI k) f_source f_check a_left a_right a_bytes a_used a_turnedBit a_blockLeft a_blockRight a_otherLeft a_otherRight ro res wt a_out a_starts := by
  intro d
  induction d with
  | zero =>
    intro v n w x low ro res wt hv hn hw
    obtain ⟨n, rfl⟩ : ∃ m, n = m + 1 := ⟨n - 1, by omega⟩
    obtain rfl : v = 4 := by omega
    exact br_t (Int32.le_refl _) (sa_writeBlock51 w sz p k hw hz hz1 hk hp hl H)
  | succ d ih =>
    intro v n w x low ro res wt hv hn hw
    obtain ⟨n, rfl⟩ : ∃ m, n = m + 1 := ⟨n - 1, by omega⟩
    refine br_f (nI_ge (b := 4) (by omega) (by omega)) (br_c (fun _ => sa_writeBlock51 w sz p k hw hz hz1 hk hp hl H) (fun _ => ?_))
    refine sa_costOfWay v sz (by omega) hz hl (fun r low' ro' res' wt' => ?_)
    try dsimp only
    exact br_c (fun _ => nm_r (nI_1 v) (ih (v + 1) n w _ _ _ _ _ (by omega) (by omega) hw)) (fun _ => nm_r (nI_1 v) (ih (v + 1) n v _ _ _ _ _ (by omega) (by omega) (by omega)))
theorem sa_writeBlock {post : SX → Prop} {ef : Int32} (sz p k : Nat) (hz : sz ≤ 16) (hz1 : 1 ≤ sz) (hk : k < 6) (hp : p + 456 ≤ 3360) (hl : ∀ j, j < sz → sa_bd (a_blockLeft j) 2048 ∧ sa_bd (a_blockRight j) 2048)
    (H : ∀ (l : List Bool) (low : Int32) (ro res wt : Nat → Int32), sa_EB sz a_blockLeft a_blockRight l → l.length ≤ 456 →
      post (f_length, nI sz, low, nI (p + l.length), nI (k + 1), f_source, f_check, a_left, a_right, a_bytes, a_used, a_turnedBit, a_blockLeft, a_blockRight, a_otherLeft, a_otherRight, ro, res, wt, sa_pL l a_out p, upd a_starts k (nI p))) :
    wpX_writeBlock post (f_length, nI sz, f_low, nI p, nI k, f_source, f_check, a_left, a_right, a_bytes, a_used, a_turnedBit, a_blockLeft, a_blockRight, a_otherLeft, a_otherRight, a_row, a_residue, a_weight, a_out, a_starts) ef := by
  unfold wpX_writeBlock
  dsimp only
  refine sa_costOfWay 0 sz (by omega) hz hl (fun r low ro res wt => ?_)
  try dsimp only
  exact ⟨4, sa_writeBlock12 sz p k hz hz1 hk hp hl H 3 1 4 0 r low ro res wt (by omega) (by omega) (by omega)⟩
end
end
section
/-! rows are read -/
theorem sa_ws_q7 {R Q wt : Nat → Int32} {i : Nat} (hQ : ∀ j, j < i → Q j = R j) (hw : ∀ k, k < 4 → wt k = sa_ws 7 R i k) : ∀ k, k < 4 → sa_lk wt Q i (sa_rs 7 R i) 4 k = sa_ws 7 R (i + 1) k := by
  intro k hk
  unfold sa_lk
  rw [if_pos hk]
  show _ = sa_lr (sa_ws 7 R i) R i (sa_rs 7 R i) k
  exact sa_lr_c hQ (hw k hk)
theorem sa_upd_ro {ro R row0 : Nat → Int32} {fr i : Nat} (hi : i < 16) {v : Int32} (hv : v = R i) (h : ∀ j, j < i → ro (fr + j) = R j) (ho : ∀ j, j < fr ∨ fr + 16 ≤ j → ro j = row0 j) :
    (∀ j, j < i + 1 → upd ro (fr + i) v (fr + j) = R j) ∧ (∀ j, j < fr ∨ fr + 16 ≤ j → upd ro (fr + i) v j = row0 j) := by
  refine ⟨fun j hj => ?_, fun j hj => ?_⟩
  · by_cases e : j = i
    · rw [e, pk_us, hv]
    · rw [pk_un (by omega)]; exact h j (by omega)
  · rw [pk_un (by omega)]; exact ho j hj
section
variable {f_length f_size f_low f_outBits f_blocks f_source f_check : Int32} {a_left a_right a_bytes a_used a_turnedBit a_blockLeft a_blockRight a_otherLeft a_otherRight a_row a_residue a_weight a_out a_starts : Nat → Int32}
theorem sa_readResidue_l {post : SX → Prop} (fr m lo sz E : Nat) (R row0 : Nat → Int32) (hf : fr ≤ 16) (hz : sz ≤ 16) (h2 : 2 ≤ m) (h7 : m ≤ 7) (hlo : lo < 16) (hE : E ≤ 13440)
    (hR : ∀ j, j < sz → sa_bd (R j) 4096) (hq : ∀ j, j < sz → sa_fo (sa_rs m R j) / 2 ^ lo < 400)
    (H : ∀ ro wt, (∀ j, j < sz → ro (fr + j) = R j) → (∀ j, j < fr ∨ fr + 16 ≤ j → ro j = row0 j) → post (f_length, nI sz, f_low, f_outBits, f_blocks, nI E, f_check, a_left, a_right, a_bytes, a_used, a_turnedBit, a_blockLeft, a_blockRight, a_otherLeft, a_otherRight, ro, a_residue, wt, a_out, a_starts)) :
    ∀ (d i n s : Nat) (ro wt : Nat → Int32), i + d = sz → d < n → s + (sa_eS (sa_rs m R) lo i d).length = E → sa_Ho (sa_gb a_bytes) s (sa_eS (sa_rs m R) lo i d) →
    (∀ j, j < i → ro (fr + j) = R j) → (∀ j, j < fr ∨ fr + 16 ≤ j → ro j = row0 j) → (∀ k, k < 4 → wt k = sa_ws m R i k) →
    wX_readResidue_13 post (nI fr) (nI m) (nI lo) n (nI i) f_length (nI sz) f_low f_outBits f_blocks (nI s) f_check a_left a_right a_bytes a_used a_turnedBit a_blockLeft a_blockRight a_otherLeft a_otherRight ro a_residue wt a_out a_starts := by
  intro d
  induction d with
  | zero =>
    intro i n s ro wt hi hn hs hh hro ho hw
    obtain ⟨n, rfl⟩ : ∃ m, n = m + 1 := ⟨n - 1, by omega⟩
    obtain rfl : i = sz := by omega
    obtain rfl : s = E := hs
    exact br_t (Int32.le_refl _) (H ro wt hro ho)
  | succ d ih =>
    intro i n s ro wt hi hn hs hh hro ho hw
    obtain ⟨n, rfl⟩ : ∃ m, n = m + 1 := ⟨n - 1, by omega⟩
    have e : sa_eS (sa_rs m R) lo i (d + 1) = sa_eF (sa_rs m R i) lo ++ sa_eS (sa_rs m R) lo (i + 1) d := rfl
    rw [e] at hs hh
    rw [List.length_append] at hs
    rw [sa_Ho_app] at hh
    have hb : (sa_rs m R i).toInt.natAbs ≤ 1400000 := sa_rs_bd (by omega) (fun j hj => hR j (by omega))
    have hfw : sa_fw m wt (sa_ro ro fr) i = sa_fw m (sa_ws m R i) R i := sa_fw_c hro hw
    have hsum : sa_fw m wt (sa_ro ro fr) i + sa_rs m R i = R i := by
      rw [hfw]
      unfold sa_rs
      grind
    have hu := sa_upd_ro (fr := fr) (by omega) (rfl : R i = R i) hro ho
    refine br_f (nI_ge (by omega) (by omega)) (sa_takeFolded lo s hlo (by omega) (hq i (by omega)) (by omega) hh.1 ?_)
    refine sa_foretold fr i m hf (by omega) h2 h7 ?_
    rw [hsum, nI_add, nI_clamp (by omega)]
    refine ⟨vp_in_nI (by omega) (by omega), nm_e ?_⟩
    refine pk_eq m 7 (fun e7 => ?_) (fun e7 => ?_)
    · subst e7
      refine sa_learn fr i hf (by omega) (nm_r (nI_1 i) ?_)
      try dsimp only
      refine ih (i + 1) n _ _ _ (by omega) (by omega) (by omega) hh.2 hu.1 hu.2 ?_
      exact sa_ws_q7 (fun j hj => hu.1 j (by omega)) hw
    · refine nm_r (nI_1 i) (ih (i + 1) n _ _ _ (by omega) (by omega) (by omega) hh.2 hu.1 hu.2 (sa_ws_sn e7 hw))
theorem sa_readRow18 {post : SX → Prop} {v : Int32} (fr sz : Nat) (R row0 : Nat → Int32) (hf : fr ≤ 16) (hz : sz ≤ 16) (hv : ∀ j, j < sz → R j = v)
    (H : ∀ ro, (∀ j, j < sz → ro (fr + j) = R j) → (∀ j, j < fr ∨ fr + 16 ≤ j → ro j = row0 j) → post (f_length, nI sz, f_low, f_outBits, f_blocks, f_source, f_check, a_left, a_right, a_bytes, a_used, a_turnedBit, a_blockLeft, a_blockRight, a_otherLeft, a_otherRight, ro, a_residue, a_weight, a_out, a_starts)) :
    ∀ (d i n : Nat) (ro : Nat → Int32), i + d = sz → d < n → (∀ j, j < i → ro (fr + j) = R j) → (∀ j, j < fr ∨ fr + 16 ≤ j → ro j = row0 j) →
    wX_readRow_18 post (nI fr) v f_length (nI sz) f_low f_outBits f_blocks f_source f_check n (nI i) a_left a_right a_bytes a_used a_turnedBit a_blockLeft a_blockRight a_otherLeft a_otherRight ro a_residue a_weight a_out a_starts := by
  intro d
  induction d with
  | zero =>
    intro i n ro hi hn hro ho
    obtain ⟨n, rfl⟩ : ∃ m, n = m + 1 := ⟨n - 1, by omega⟩
    obtain rfl : i = sz := by omega
    exact br_t (Int32.le_refl _) (H ro hro ho)
  | succ d ih =>
    intro i n ro hi hn hro ho
    obtain ⟨n, rfl⟩ : ∃ m, n = m + 1 := ⟨n - 1, by omega⟩
    have hu := sa_upd_ro (fr := fr) (by omega) (hv i (by omega)).symm hro ho
    refine br_f (nI_ge (by omega) (by omega)) ?_
    rw [nI_add, nI_clamp (by omega)]
    exact ⟨vp_in_nI (by omega) (by omega), nm_e (nm_r (nI_1 i) (ih (i + 1) n _ (by omega) (by omega) hu.1 hu.2))⟩
theorem sa_readRow53 {post : SX → Prop} (fr sz E : Nat) (R row0 : Nat → Int32) (hf : fr ≤ 16) (hz : sz ≤ 16) (hE : E ≤ 13440) (hR : ∀ j, j < sz → sa_bd (R j) 4096)
    (H : ∀ ro, (∀ j, j < sz → ro (fr + j) = R j) → (∀ j, j < fr ∨ fr + 16 ≤ j → ro j = row0 j) → post (f_length, nI sz, f_low, f_outBits, f_blocks, nI E, f_check, a_left, a_right, a_bytes, a_used, a_turnedBit, a_blockLeft, a_blockRight, a_otherLeft, a_otherRight, ro, a_residue, a_weight, a_out, a_starts)) :
    ∀ (d i n s : Nat) (ro : Nat → Int32), i + d = sz → d < n → s + 14 * d = E → sa_Ho (sa_gb a_bytes) s (sa_eA R i d) → (∀ j, j < i → ro (fr + j) = R j) → (∀ j, j < fr ∨ fr + 16 ≤ j → ro j = row0 j) →
    wX_readRow_53 post (nI fr) n (nI i) f_length (nI sz) f_low f_outBits f_blocks (nI s) f_check a_left a_right a_bytes a_used a_turnedBit a_blockLeft a_blockRight a_otherLeft a_otherRight ro a_residue a_weight a_out a_starts := by
  intro d
  induction d with
  | zero =>
    intro i n s ro hi hn hs hh hro ho
    obtain ⟨n, rfl⟩ : ∃ m, n = m + 1 := ⟨n - 1, by omega⟩
    obtain rfl : i = sz := by omega
    obtain rfl : s = E := by omega
    exact br_t (Int32.le_refl _) (H ro hro ho)
  | succ d ih =>
    intro i n s ro hi hn hs hh hro ho
    obtain ⟨n, rfl⟩ : ∃ m, n = m + 1 := ⟨n - 1, by omega⟩
    have e : sa_eA R i (d + 1) = sa_bw (R i) 14 ++ sa_eA R (i + 1) d := rfl
    rw [e, sa_Ho_app, sa_bw_len] at hh
    have hb : (R i).toInt.natAbs ≤ 4096 := hR i (by omega)
    have hu := sa_upd_ro (fr := fr) (by omega) (rfl : R i = R i) hro ho
    refine br_f (nI_ge (by omega) (by omega)) (sa_takeWide s (R i) (by omega) (by omega) (by omega) hh.1 ?_)
    rw [nI_add, nI_clamp (by omega)]
    exact ⟨vp_in_nI (by omega) (by omega), nm_e (nm_r (nI_1 i) (ih (i + 1) n (s + 14) _ (by omega) (by omega) (by omega) hh.2 hu.1 hu.2))⟩
theorem sa_readRow {post : SX → Prop} (fr sz s : Nat) (R : Nat → Int32) (l : List Bool) (hf : fr ≤ 16) (hz : sz ≤ 16) (hz1 : 1 ≤ sz) (hE : s + l.length ≤ 13440)
    (hR : ∀ j, j < sz → sa_bd (R j) 4096) (hER : sa_ER sz R l) (hh : sa_Ho (sa_gb a_bytes) s l)
    (H : ∀ ro wt, (∀ j, j < sz → ro (fr + j) = R j) → (∀ j, j < fr ∨ fr + 16 ≤ j → ro j = a_row j) → post (f_length, nI sz, f_low, f_outBits, f_blocks, nI (s + l.length), f_check, a_left, a_right, a_bytes, a_used, a_turnedBit, a_blockLeft, a_blockRight, a_otherLeft, a_otherRight, ro, a_residue, wt, a_out, a_starts)) :
    wpX_readRow post (f_length, nI sz, f_low, f_outBits, f_blocks, nI s, f_check, a_left, a_right, a_bytes, a_used, a_turnedBit, a_blockLeft, a_blockRight, a_otherLeft, a_otherRight, a_row, a_residue, a_weight, a_out, a_starts) (nI fr) := by
  unfold wpX_readRow
  dsimp only
  rcases hER with ⟨v, hv, e⟩ | e | ⟨m, lo, h2, h7, hlo, hq, e⟩
  · subst e
    rw [sa_Ho_app, sa_bw_len] at hh
    rw [List.length_append, sa_bw_len, sa_bw_len, ← Nat.add_assoc] at hE H
    have hb : (R 0).toInt.natAbs ≤ 4096 := hR 0 (by omega)
    rw [hv 0 (by omega)] at hb
    refine sa_takeBitsN 3 s 0 (by omega) (by omega) (by omega) hh.1 ?_
    try dsimp only
    refine br_t rfl (sa_takeWide (s + 3) v (by omega) (by omega) (by omega) hh.2 ?_)
    exact ⟨sz + 1, sa_readRow18 fr sz R a_row hf hz hv (fun ro h1 h2 => H ro a_weight h1 h2) sz 0 (sz + 1) a_row (by omega) (by omega) (fun j hj => absurd hj (by omega)) (fun _ _ => rfl)⟩
  · subst e
    rw [sa_Ho_app, sa_bw_len] at hh
    rw [List.length_append, sa_bw_len, sa_eA_len, ← Nat.add_assoc] at hE H
    refine sa_takeBitsN 3 s 1 (by omega) (by omega) (by omega) hh.1 ?_
    try dsimp only
    refine br_f (by decide) (br_t rfl ?_)
    exact ⟨sz + 1, sa_readRow53 fr sz (s + 3 + 14 * sz) R a_row hf hz (by omega) hR (fun ro h1 h2 => H ro a_weight h1 h2) sz 0 (sz + 1) (s + 3) a_row (by omega) (by omega) (by omega) hh.2 (fun j hj => absurd hj (by omega)) (fun _ _ => rfl)⟩
  · subst e
    rw [sa_Ho_app, sa_Ho_app, sa_bw_len, sa_bw_len] at hh
    rw [List.length_append, List.length_append, sa_bw_len, sa_bw_len, ← Nat.add_assoc, ← Nat.add_assoc] at hE H
    refine sa_takeBitsN 3 s m (by omega) (by omega) (by omega) hh.1 ?_
    try dsimp only
    refine br_f (fun z => absurd ((nI_eq (b := 0) (by omega) (by omega)).mp z) (by omega)) (br_f (fun z => absurd ((nI_eq (b := 1) (by omega) (by omega)).mp z) (by omega)) ?_)
    unfold wpX_readResidue
    dsimp only
    refine sa_takeBitsN 4 (s + 3) lo (by omega) (by omega) (by omega) hh.2.1 ?_
    try dsimp only
    refine sa_resetWeights (fun wt hw => ?_)
    try dsimp only
    refine ⟨sz + 1, ?_⟩
    exact sa_readResidue_l fr m lo sz (s + 3 + 4 + (sa_eS (sa_rs m R) lo 0 sz).length) R a_row hf hz h2 h7 hlo (by omega) hR hq H sz 0 (sz + 1) (s + 3 + 4) a_row wt (by omega) (by omega) rfl hh.2.2 (fun j hj => absurd hj (by omega)) (fun _ _ => rfl) (fun k hk => hw m R k hk)
end
/-! what a slot's bytes hold -/
def sa_lc (a : Nat → Int32) (s : Nat) : Nat → Int32 := fun j => a (420 * s + j)
def sa_nb (n : Nat) : Nat := (n + 15) / 16
def sa_sz (n b : Nat) : Nat := if 16 ≤ n - 16 * b then 16 else n - 16 * b
def sa_cat (ls : Nat → List Bool) : Nat → List Bool
  | 0 => []
  | b + 1 => sa_cat ls b ++ ls b
def sa_sm (x : Int32) : Prop := -2048 ≤ x.toInt ∧ x.toInt ≤ 2047
def sa_Pk (B : Nat → Int32) (us n : Nat) (L R : Nat → Int32) (ls : Nat → List Bool) : Prop :=
  n ≤ 96 ∧ B 0 = nI n ∧
  (∀ b, b < sa_nb n → (ls b).length ≤ 456 ∧ sa_EB (sa_sz n b) (fun i => L (16 * b + i)) (fun i => R (16 * b + i)) (ls b)) ∧
  (∀ b, b ≤ sa_nb n → B (3 + 2 * b) = nI ((sa_cat ls b).length / 256) ∧ B (3 + 2 * b + 1) = nI ((sa_cat ls b).length % 256)) ∧
  sa_Ho (sa_gb B) (8 * (3 + 2 * (sa_nb n + 1))) (sa_cat ls (sa_nb n)) ∧
  us = 3 + 2 * (sa_nb n + 1) + ((sa_cat ls (sa_nb n)).length + 7) / 8 ∧
  (∀ j, j < us → ∀ i, 8 ≤ i → bt (B j) i = false) ∧
  (∀ i, i < n → sa_sm (L i) ∧ sa_sm (R i))
theorem sa_sm_bd {x : Int32} (h : sa_sm x) : sa_bd x 2048 := by
  unfold sa_sm at h
  unfold sa_bd
  omega
theorem sa_cat_le {ls : Nat → List Bool} {N : Nat} (h : ∀ b, b < N → (ls b).length ≤ 456) : ∀ b, b ≤ N → (sa_cat ls b).length ≤ 456 * b
  | 0, _ => Nat.le_refl _
  | b + 1, hb => by
    have ih := sa_cat_le h b (by omega)
    have := h b (by omega)
    show (sa_cat ls b ++ ls b).length ≤ _
    rw [List.length_append]
    omega
theorem sa_cat_mono (ls : Nat → List Bool) : ∀ k b, b ≤ k → (sa_cat ls b).length ≤ (sa_cat ls k).length
  | 0, b, h => by rw [show b = 0 from by omega]; exact Nat.le_refl _
  | k + 1, b, h => by
    by_cases e : b = k + 1
    · rw [e]; exact Nat.le_refl _
    · have ih := sa_cat_mono ls k b (by omega)
      show _ ≤ (sa_cat ls k ++ ls k).length
      rw [List.length_append]
      omega
theorem sa_cat_ho {g : Nat → Bool} {ls : Nat → List Bool} {F : Nat} : ∀ k, sa_Ho g F (sa_cat ls k) → ∀ b, b < k → sa_Ho g (F + (sa_cat ls b).length) (ls b)
  | 0, _, b, h => absurd h (by omega)
  | k + 1, H, b, h => by
    have H' : sa_Ho g F (sa_cat ls k ++ ls k) := H
    rw [sa_Ho_app] at H'
    by_cases e : b = k
    · rw [e]; exact H'.2
    · exact sa_cat_ho k H'.1 b (by omega)
theorem sa_gb_lc (a : Nat → Int32) (s i : Nat) : sa_gb (sa_lc a s) i = sa_gb a (3360 * s + i) := by
  unfold sa_gb sa_lc
  rw [show (3360 * s + i) / 8 = 420 * s + i / 8 from by omega, show (3360 * s + i) % 8 = i % 8 from by omega]
theorem sa_Pk_us {B : Nat → Int32} {us n : Nat} {L R : Nat → Int32} {ls : Nat → List Bool} (h : sa_Pk B us n L R ls) : us ≤ 359 ∧ 5 ≤ us ∧ sa_nb n ≤ 6 ∧ (sa_cat ls (sa_nb n)).length ≤ 2736 := by
  obtain ⟨h1, h2, h3, h4, h5, h6, h7, h8⟩ := h
  have hn : sa_nb n ≤ 6 := by unfold sa_nb; omega
  have := sa_cat_le (fun b hb => (h3 b hb).1) (sa_nb n) (Nat.le_refl _)
  omega
theorem sa_sz_le {n b : Nat} (h : 16 * b < n) : 1 ≤ sa_sz n b ∧ sa_sz n b ≤ 16 ∧ 16 * b + sa_sz n b ≤ n ∧ b < sa_nb n := by
  unfold sa_sz sa_nb
  split <;> omega
section
variable {f_length f_size f_low f_outBits f_blocks f_source f_check : Int32} {a_left a_right a_bytes a_used a_turnedBit a_blockLeft a_blockRight a_otherLeft a_otherRight a_row a_residue a_weight a_out a_starts : Nat → Int32}
theorem sa_momentsOf {post : Int32 → Prop} (s n : Nat) (hs : s < 4) (hn : sa_lc a_bytes s 0 = nI n) (H : post (nI n)) : wpX_momentsOf post (f_length, f_size, f_low, f_outBits, f_blocks, f_source, f_check, a_left, a_right, a_bytes, a_used, a_turnedBit, a_blockLeft, a_blockRight, a_otherLeft, a_otherRight, a_row, a_residue, a_weight, a_out, a_starts) (nI s) := by
  have e : (420 : Int32) * nI s = nI (420 * s) := pk_mul 420 s
  have hn' : a_bytes (420 * s) = nI n := hn
  show vp_in ((420 : Int32) * nI s) 1680 ∧ post (a_bytes ((420 : Int32) * nI s).toNatClampNeg)
  rw [e, nI_clamp (by omega), hn']
  exact ⟨vp_in_nI (by omega) (by omega), H⟩
theorem sa_startOf {post : Int32 → Prop} {y : Int32} (s b st : Nat) (hs : s < 4) (hb : b ≤ 6) (hst : st < 65536) (hy : y = nI b)
    (h : sa_lc a_bytes s (3 + 2 * b) = nI (st / 256) ∧ sa_lc a_bytes s (3 + 2 * b + 1) = nI (st % 256)) (H : post (nI st)) : wpX_startOf post (f_length, f_size, f_low, f_outBits, f_blocks, f_source, f_check, a_left, a_right, a_bytes, a_used, a_turnedBit, a_blockLeft, a_blockRight, a_otherLeft, a_otherRight, a_row, a_residue, a_weight, a_out, a_starts) (nI s) y := by
  subst hy
  refine nm_r (e' := nI (420 * s + (3 + 2 * b))) ?_ ?_
  · rw [show (420 : Int32) * nI s = nI (420 * s) from pk_mul 420 s, show (2 : Int32) * nI b = nI (2 * b) from pk_mul 2 b, show (3 : Int32) = nI 3 from rfl, nI_add, nI_add]
    exact congrArg nI (by omega)
  · have h1 : a_bytes (420 * s + (3 + 2 * b)) = nI (st / 256) := h.1
    have h2 : a_bytes (420 * s + (3 + 2 * b) + 1) = nI (st % 256) := h.2
    rw [nI_1, nI_clamp (by omega), nI_clamp (by omega), h1, h2]
    have e : (nI (st / 256) <<< ((8 : Int32) &&& 31)) ||| nI (st % 256) = nI st := sa_join st 8 (by omega) (by omega)
    rw [e]
    exact ⟨vp_in_nI (by omega) (by omega), vp_in_nI (by omega) (by omega), H⟩
theorem sa_blocksFor {post : Int32 → Prop} (n : Nat) (hn : n ≤ 96) (H : post (nI (sa_nb n))) : wpX_blocksFor post (nI n) := by
  have e : ((nI n + 16) - 1) / (16 : Int32) = nI (sa_nb n) := by
    rw [show nI n + 16 = nI (n + 16) from nI_add n 16, show nI (n + 16) - 1 = nI (n + 15) from pk_sub (b := 1) (by omega)]
    exact pk_div (d := 16) (by omega) (by omega) (by omega)
  show ¬ (16 : Int32) = 0 ∧ post (((nI n + 16) - 1) / (16 : Int32))
  rw [e]
  exact ⟨by decide, H⟩
theorem sa_firstBit {post : Int32 → Prop} (s n : Nat) (hs : s < 4) (hn : n ≤ 96) (hB : sa_lc a_bytes s 0 = nI n) (H : post (nI (3360 * s + 8 * (3 + 2 * (sa_nb n + 1))))) : wpX_firstBit post (f_length, f_size, f_low, f_outBits, f_blocks, f_source, f_check, a_left, a_right, a_bytes, a_used, a_turnedBit, a_blockLeft, a_blockRight, a_otherLeft, a_otherRight, a_row, a_residue, a_weight, a_out, a_starts) (nI s) := by
  unfold wpX_firstBit
  dsimp only
  refine sa_momentsOf s n hs hB ?_
  refine sa_blocksFor n hn ?_
  have e : (8 : Int32) * (((420 : Int32) * nI s + 3) + (2 * (nI (sa_nb n) + 1))) = nI (3360 * s + 8 * (3 + 2 * (sa_nb n + 1))) := by
    rw [nI_1, show (420 : Int32) * nI s = nI (420 * s) from pk_mul 420 s, show (2 : Int32) * nI (sa_nb n + 1) = nI (2 * (sa_nb n + 1)) from pk_mul 2 _, show (3 : Int32) = nI 3 from rfl, nI_add, nI_add, show (8 : Int32) = nI 8 from rfl, pk_mul]
    exact congrArg nI (by omega)
  rw [e]
  exact H
theorem sa_readBlock29 {post : SX → Prop} (s b n us : Nat) (L R : Nat → Int32) (ls : Nat → List Bool) (hs : s < 4) (hb : 16 * b < n) (hP : sa_Pk (sa_lc a_bytes s) us n L R ls)
    (H : ∀ (src : Int32) (bl br ro wt : Nat → Int32), (∀ j, j < sa_sz n b → bl j = L (16 * b + j) ∧ br j = R (16 * b + j)) → post (f_length, nI (sa_sz n b), f_low, f_outBits, f_blocks, src, f_check, a_left, a_right, a_bytes, a_used, a_turnedBit, bl, br, a_otherLeft, a_otherRight, ro, a_residue, wt, a_out, a_starts)) :
    wX_readBlock_29 post (nI s) (nI b) (nI (sa_sz n b)) f_length f_size f_low f_outBits f_blocks f_source f_check a_left a_right a_bytes a_used a_turnedBit a_blockLeft a_blockRight a_otherLeft a_otherRight a_row a_residue a_weight a_out a_starts := by
  have hus := sa_Pk_us hP
  obtain ⟨h1, h2, h3, h4, h5, h6, h7, h8⟩ := hP
  obtain ⟨z1, z2, z3, z4⟩ := sa_sz_le hb
  have hcb := sa_cat_mono ls (sa_nb n) (b + 1) (by omega)
  have hcb' : (sa_cat ls (b + 1)).length = (sa_cat ls b).length + (ls b).length := by
    show (sa_cat ls b ++ ls b).length = _
    rw [List.length_append]
  have hblk : sa_Ho (sa_gb a_bytes) (3360 * s + 8 * (3 + 2 * (sa_nb n + 1)) + (sa_cat ls b).length) (ls b) := by
    refine sa_Ho_sh _ _ _ (fun i hi => ?_) (sa_cat_ho (sa_nb n) h5 b z4)
    rw [sa_gb_lc]
    exact congrArg _ (by omega)
  obtain ⟨hlen, w, l0, l1, hw, hE0, hE1, el⟩ := h3 b z4
  have hlen2 := congrArg List.length el
  rw [List.length_append, List.length_append, sa_bw_len] at hlen2
  rw [el, sa_Ho_app, sa_Ho_app, sa_bw_len] at hblk
  have hsm : ∀ j, j < sa_sz n b → sa_bd (L (16 * b + j)) 2048 ∧ sa_bd (R (16 * b + j)) 2048 := fun j hj => ⟨sa_sm_bd (h8 _ (by omega)).1, sa_sm_bd (h8 _ (by omega)).2⟩
  unfold wX_readBlock_29
  refine sa_firstBit s n hs h1 h2 ?_
  refine sa_startOf s b _ hs (by omega) (by omega) rfl (h4 b (by omega)) ?_
  refine nm_r (nI_add _ _) ?_
  refine sa_takeBitsN 2 _ w (by omega) (by omega) (by omega) hblk.1 ?_
  try dsimp only
  refine sa_readRow 0 (sa_sz n b) _ _ l0 (by omega) z2 z1 (by omega) (fun j hj => sa_m0_bd (hsm j hj).1 (hsm j hj).2) hE0 hblk.2.1 (fun ro0 wt0 g0 g0' => ?_)
  try dsimp only
  refine sa_readRow 16 (sa_sz n b) _ _ l1 (by omega) z2 z1 (by omega) (fun j hj => sa_m1_bd (hsm j hj).1 (hsm j hj).2) hE1 hblk.2.2 (fun ro1 wt1 g1 g1' => ?_)
  try dsimp only
  refine sa_takeRows w (sa_sz n b) hw z2 (fun bl br hbl => H _ bl br ro1 wt1 (fun j hj => ?_))
  have e0 : ro1 j = sa_m0 w (L (16 * b + j)) (R (16 * b + j)) := by
    rw [g1' j (Or.inl (by omega))]
    have := g0 j hj
    rw [Nat.zero_add] at this
    exact this
  have e1 : ro1 (16 + j) = sa_m1 w (L (16 * b + j)) (R (16 * b + j)) := g1 j hj
  rw [(hbl j hj).1, (hbl j hj).2, e0, e1, sa_t0_m hw (hsm j hj).1 (hsm j hj).2, sa_t1_m hw (hsm j hj).1 (hsm j hj).2]
  exact ⟨rfl, rfl⟩
theorem sa_readBlock {post : SX → Prop} {y : Int32} (s b n us : Nat) (L R : Nat → Int32) (ls : Nat → List Bool) (hs : s < 4) (hb : 16 * b < n) (hy : y = nI b) (hP : sa_Pk (sa_lc a_bytes s) us n L R ls)
    (H : ∀ (src : Int32) (bl br ro wt : Nat → Int32), (∀ j, j < sa_sz n b → bl j = L (16 * b + j) ∧ br j = R (16 * b + j)) → post (f_length, nI (sa_sz n b), f_low, f_outBits, f_blocks, src, f_check, a_left, a_right, a_bytes, a_used, a_turnedBit, bl, br, a_otherLeft, a_otherRight, ro, a_residue, wt, a_out, a_starts)) :
    wpX_readBlock post (f_length, f_size, f_low, f_outBits, f_blocks, f_source, f_check, a_left, a_right, a_bytes, a_used, a_turnedBit, a_blockLeft, a_blockRight, a_otherLeft, a_otherRight, a_row, a_residue, a_weight, a_out, a_starts) (nI s) y := by
  subst hy
  have h : wX_readBlock_29 post (nI s) (nI b) (nI (sa_sz n b)) f_length f_size f_low f_outBits f_blocks f_source f_check a_left a_right a_bytes a_used a_turnedBit a_blockLeft a_blockRight a_otherLeft a_otherRight a_row a_residue a_weight a_out a_starts := sa_readBlock29 s b n us L R ls hs hb hP H
  have hn := hP.1
  unfold wpX_readBlock
  dsimp only
  refine sa_momentsOf s n hs hP.2.1 ?_
  have e : nI n - (16 : Int32) * nI b = nI (n - 16 * b) := by
    rw [show (16 : Int32) * nI b = nI (16 * b) from pk_mul 16 b, pk_sub (by omega)]
  rw [e]
  unfold sa_sz at h
  refine pk_le 16 (n - 16 * b) (fun h16 => ?_) (fun h16 => ?_)
  · rw [if_pos h16] at h
    exact h
  · rw [if_neg (by omega)] at h
    exact h
end
end
section
/-! the check number -/
def sa_sp (x : Int32) : Int32 := if x &&& 1 = 1 then ((x.toUInt32 >>> ((1 : Int32).toUInt32 &&& Int32.toUInt32 31)).toInt32) ^^^ 33800 else ((x.toUInt32 >>> ((1 : Int32).toUInt32 &&& Int32.toUInt32 31)).toInt32) ^^^ 0
def sa_it : Nat → Int32 → Int32
  | 0, x => x
  | k + 1, x => sa_it k (sa_sp x)
def sa_fd (c b : Int32) : Int32 := sa_it 8 (c ^^^ b)
def sa_cr (B : Nat → Int32) : Nat → Int32
  | 0 => 65535
  | i + 1 => if i = 1 ∨ i = 2 then sa_cr B i else sa_fd (sa_cr B i) (B i)
def sa_ck (B : Nat → Int32) (us : Nat) : Prop := sa_cr B us = (B 1 <<< ((8 : Int32) &&& 31)) ||| B 2
def sa_lo16 (x : Int32) : Prop := ∀ i, 16 ≤ i → bt x i = false
def sa_lo8 (x : Int32) : Prop := ∀ i, 8 ≤ i → bt x i = false
theorem sa_odd (x : Int32) : x &&& 1 = 1 ↔ bt x 0 = true := by
  constructor
  · intro h
    have h2 := congrArg (fun z => bt z 0) h
    have h3 : bt (x &&& 1) 0 = bt 1 0 := h2
    rw [b_and, sa_bt1 0 (by omega)] at h3
    simpa using h3
  · intro h
    apply b_ext
    intro i hi
    rw [b_and, sa_bt1 i hi]
    by_cases e : i = 0
    · subst e; rw [h]; rfl
    · rw [decide_eq_false e, Bool.and_false]
theorem sa_sp_bt (x : Int32) (i : Nat) : bt (sa_sp x) i = (bt x (1 + i) ^^ (bt x 0 && bt 33800 i)) := by
  have hs : bt ((x.toUInt32 >>> ((1 : Int32).toUInt32 &&& Int32.toUInt32 31)).toInt32) i = bt x (1 + i) := b_ushr 1 (by omega) x i
  unfold sa_sp
  by_cases h : x &&& 1 = 1
  · rw [if_pos h, b_xor, hs, (sa_odd x).mp h, Bool.true_and]
  · have h0 : bt x 0 = false := by
      cases e : bt x 0
      · rfl
      · exact absurd ((sa_odd x).mpr e) h
    rw [if_neg h, b_xor, hs, h0, b_0, Bool.false_and]
theorem sa_33800 : ∀ i, 16 ≤ i → bt 33800 i = false := by
  intro i hi
  rcases Nat.lt_or_ge i 32 with h | h
  · exact (by decide +kernel : ∀ i, i < 32 → 16 ≤ i → bt 33800 i = false) i h hi
  · exact b_big h
theorem sa_33800_15 : bt 33800 15 = true := by decide +kernel
theorem sa_sp_lo {x : Int32} (h : sa_lo16 x) : sa_lo16 (sa_sp x) := by
  intro i hi
  rw [sa_sp_bt, h (1 + i) (by omega), sa_33800 i hi, Bool.and_false]
  rfl
theorem sa_sp_inj {x y : Int32} (hx : sa_lo16 x) (hy : sa_lo16 y) (h : sa_sp x = sa_sp y) : x = y := by
  have hb : ∀ i, (bt x (1 + i) ^^ (bt x 0 && bt 33800 i)) = (bt y (1 + i) ^^ (bt y 0 && bt 33800 i)) := fun i => by
    rw [← sa_sp_bt, ← sa_sp_bt, h]
  have h0 : bt x 0 = bt y 0 := by
    have := hb 15
    rw [hx (1 + 15) (by omega), hy (1 + 15) (by omega), sa_33800_15, Bool.and_true, Bool.and_true, Bool.false_xor, Bool.false_xor] at this
    exact this
  apply b_ext
  intro i hi
  cases i with
  | zero => exact h0
  | succ i =>
    have := hb i
    rw [h0, Nat.add_comm 1 i] at this
    exact Bool.xor_right_inj.mp (by rw [Bool.xor_comm, this, Bool.xor_comm])
theorem sa_it_lo : ∀ k {x : Int32}, sa_lo16 x → sa_lo16 (sa_it k x)
  | 0, _, h => h
  | k + 1, _, h => sa_it_lo k (sa_sp_lo h)
theorem sa_it_inj : ∀ k {x y : Int32}, sa_lo16 x → sa_lo16 y → sa_it k x = sa_it k y → x = y
  | 0, _, _, _, _, h => h
  | k + 1, _, _, hx, hy, h => sa_sp_inj hx hy (sa_it_inj k (sa_sp_lo hx) (sa_sp_lo hy) h)
theorem sa_xor_lo {c b : Int32} (hc : sa_lo16 c) (hb : sa_lo8 b) : sa_lo16 (c ^^^ b) := by
  intro i hi
  rw [b_xor, hc i hi, hb i (by omega)]
  rfl
theorem sa_fd_lo {c b : Int32} (hc : sa_lo16 c) (hb : sa_lo8 b) : sa_lo16 (sa_fd c b) := sa_it_lo 8 (sa_xor_lo hc hb)
theorem sa_xor_r {a b c : Int32} (h : a ^^^ c = b ^^^ c) : a = b := by
  apply b_ext
  intro i hi
  have h2 : bt (a ^^^ c) i = bt (b ^^^ c) i := by rw [h]
  rw [b_xor, b_xor] at h2
  revert h2
  cases bt a i <;> cases bt b i <;> cases bt c i <;> simp
theorem sa_xor_l {a b c : Int32} (h : c ^^^ a = c ^^^ b) : a = b := by
  apply b_ext
  intro i hi
  have h2 : bt (c ^^^ a) i = bt (c ^^^ b) i := by rw [h]
  rw [b_xor, b_xor] at h2
  revert h2
  cases bt a i <;> cases bt b i <;> cases bt c i <;> simp
theorem sa_fd_injc {c d b : Int32} (hc : sa_lo16 c) (hd : sa_lo16 d) (hb : sa_lo8 b) (h : sa_fd c b = sa_fd d b) : c = d :=
  sa_xor_r (sa_it_inj 8 (sa_xor_lo hc hb) (sa_xor_lo hd hb) h)
theorem sa_fd_injb {c a b : Int32} (hc : sa_lo16 c) (ha : sa_lo8 a) (hb : sa_lo8 b) (h : sa_fd c a = sa_fd c b) : a = b :=
  sa_xor_l (sa_it_inj 8 (sa_xor_lo hc ha) (sa_xor_lo hc hb) h)
theorem sa_cr_s (B : Nat → Int32) (i : Nat) : sa_cr B (i + 1) = if i = 1 ∨ i = 2 then sa_cr B i else sa_fd (sa_cr B i) (B i) := rfl
theorem sa_cr_lo {B : Nat → Int32} {us : Nat} (h : ∀ j, j < us → ¬ (j = 1 ∨ j = 2) → sa_lo8 (B j)) : ∀ i, i ≤ us → sa_lo16 (sa_cr B i) := by
  intro i
  induction i with
  | zero =>
    intro _ j hj
    show bt 65535 j = false
    rw [b_65535, decide_eq_false (by omega)]
  | succ i ih =>
    intro hi
    rw [sa_cr_s]
    by_cases e : i = 1 ∨ i = 2
    · rw [if_pos e]; exact ih (by omega)
    · rw [if_neg e]; exact sa_fd_lo (ih (by omega)) (h i (by omega) e)
theorem sa_cr_c {B C : Nat → Int32} : ∀ i, (∀ j, j < i → ¬ (j = 1 ∨ j = 2) → B j = C j) → sa_cr B i = sa_cr C i := by
  intro i
  induction i with
  | zero => intro _; rfl
  | succ i ih =>
    intro h
    rw [sa_cr_s, sa_cr_s, ih (fun j hj => h j (by omega))]
    by_cases e : i = 1 ∨ i = 2
    · rw [if_pos e, if_pos e]
    · rw [if_neg e, if_neg e, h i (by omega) e]
theorem sa_cr_ne {B C : Nat → Int32} {us j0 : Nat} (hB : ∀ j, j < us → sa_lo8 (B j)) (hC : ∀ j, j < us → sa_lo8 (C j)) (h0 : ¬ (j0 = 1 ∨ j0 = 2)) (hne : B j0 ≠ C j0) (he : ∀ j, j ≠ j0 → B j = C j) :
    ∀ d, j0 + 1 + d ≤ us → sa_cr B (j0 + 1 + d) ≠ sa_cr C (j0 + 1 + d) := by
  intro d
  induction d with
  | zero =>
    intro hd e
    rw [Nat.add_zero, sa_cr_s, sa_cr_s, if_neg h0, if_neg h0, sa_cr_c j0 (fun j hj _ => he j (by omega))] at e
    exact hne (sa_fd_injb (sa_cr_lo (fun j hj _ => hC j hj) j0 (by omega)) (hB j0 (by omega)) (hC j0 (by omega)) e)
  | succ d ih =>
    intro hd e
    have ih' := ih (by omega)
    rw [← Nat.add_assoc, sa_cr_s, sa_cr_s] at e
    by_cases e12 : j0 + 1 + d = 1 ∨ j0 + 1 + d = 2
    · rw [if_pos e12, if_pos e12] at e
      exact ih' e
    · rw [if_neg e12, if_neg e12, he _ (by omega)] at e
      exact ih' (sa_fd_injc (sa_cr_lo (fun j hj _ => hB j hj) _ (by omega)) (sa_cr_lo (fun j hj _ => hC j hj) _ (by omega)) (hC _ (by omega)) e)
/-! a bit turned round -/
def sa_tb (B : Nat → Int32) (t : Nat) : Nat → Int32 := upd B (t / 8) (B (t / 8) ^^^ sa_mk (t % 8))
theorem sa_mk_lo {k : Nat} (hk : k < 8) : sa_lo8 (sa_mk k) := by
  intro i hi
  rcases Nat.lt_or_ge i 32 with h | h
  · rw [sa_mk_b k (by omega) i h, decide_eq_false (by omega)]
  · exact b_big h
theorem sa_xor_lo8 {a b : Int32} (ha : sa_lo8 a) (hb : sa_lo8 b) : sa_lo8 (a ^^^ b) := by
  intro i hi
  rw [b_xor, ha i hi, hb i hi]
  rfl
theorem sa_tb_lo {B : Nat → Int32} {us : Nat} (h : ∀ j, j < us → sa_lo8 (B j)) (t : Nat) (ht : t < 8 * us) : ∀ j, j < us → sa_lo8 (sa_tb B t j) := by
  intro j hj
  unfold sa_tb
  by_cases e : j = t / 8
  · rw [e, pk_us]
    exact sa_xor_lo8 (h _ (by omega)) (sa_mk_lo (by omega))
  · rw [pk_un e]; exact h j hj
theorem sa_xx (a b : Int32) : a ^^^ b ^^^ b = a := by
  apply b_ext
  intro i hi
  rw [b_xor, b_xor]
  cases bt a i <;> cases bt b i <;> rfl
theorem sa_tb_tb (B : Nat → Int32) (t : Nat) : sa_tb (sa_tb B t) t = B := by
  funext j
  unfold sa_tb
  by_cases e : j = t / 8
  · rw [e, pk_us, pk_us, sa_xx]
  · rw [pk_un e, pk_un e]
theorem sa_flip {a : Int32} {k : Nat} (hk : k < 32) : bt (a ^^^ sa_mk k) k ≠ bt a k := by
  rw [b_xor, sa_mk_b k hk k hk, decide_eq_true rfl]
  cases bt a k <;> decide
theorem sa_tb_ne {B : Nat → Int32} {t : Nat} : sa_tb B t (t / 8) ≠ B (t / 8) := by
  intro e
  unfold sa_tb at e
  rw [pk_us] at e
  exact sa_flip (a := B (t / 8)) (k := t % 8) (by omega) (by rw [e])
theorem sa_ck_tb {B : Nat → Int32} {us : Nat} (hB : ∀ j, j < us → sa_lo8 (B j)) (hu : 3 ≤ us) (t : Nat) (ht : t < 8 * us) (h : sa_ck B us) : ¬ sa_ck (sa_tb B t) us := by
  intro h'
  unfold sa_ck at h h'
  have hT := sa_tb_lo hB t ht
  have hne := sa_tb_ne (B := B) (t := t)
  have hoth : ∀ j, j ≠ t / 8 → sa_tb B t j = B j := fun j hj => pk_un hj
  by_cases e12 : t / 8 = 1 ∨ t / 8 = 2
  · have ec : sa_cr (sa_tb B t) us = sa_cr B us := sa_cr_c us (fun j _ hj => hoth j (fun z => hj (by omega)))
    rw [ec, h] at h'
    have hbit : ∀ i, i < 32 → (decide (8 ≤ i) && bt (B 1) (i - 8) || bt (B 2) i) = (decide (8 ≤ i) && bt (sa_tb B t 1) (i - 8) || bt (sa_tb B t 2) i) := by
      intro i hi
      rw [← b_shl8 _ hi, ← b_shl8 _ hi, ← b_or, ← b_or, h']
    have hf := sa_flip (a := B (t / 8)) (k := t % 8) (by omega)
    have hu2 : sa_tb B t (t / 8) = B (t / 8) ^^^ sa_mk (t % 8) := pk_us
    rcases e12 with e | e
    · have hb := hbit (8 + t % 8) (by omega)
      rw [hoth 2 (by omega), hB 2 (by omega) (8 + t % 8) (by omega), decide_eq_true (by omega), Bool.true_and, Bool.true_and, Bool.or_false, Bool.or_false, Nat.add_sub_cancel_left] at hb
      rw [e] at hf hu2
      rw [hu2] at hb
      exact hf hb.symm
    · have hb := hbit (t % 8) (by omega)
      rw [hoth 1 (by omega), decide_eq_false (by omega), Bool.false_and, Bool.false_or, Bool.false_or] at hb
      rw [e] at hf hu2
      rw [hu2] at hb
      exact hf hb.symm
  · obtain ⟨d, hd⟩ : ∃ d, us = t / 8 + 1 + d := ⟨us - (t / 8 + 1), by omega⟩
    have hx := sa_cr_ne (us := us) hT hB e12 hne hoth d (by omega)
    rw [← hd] at hx
    apply hx
    rw [h', h, hoth 1 (by omega), hoth 2 (by omega)]
section
variable {f_length f_size f_low f_outBits f_blocks f_source f_check : Int32} {a_left a_right a_bytes a_used a_turnedBit a_blockLeft a_blockRight a_otherLeft a_otherRight a_row a_residue a_weight a_out a_starts : Nat → Int32}
theorem sa_feed_l {post : SX → Prop} : ∀ (d k n : Nat) (c : Int32), k + d = 8 → d < n → post (f_length, f_size, f_low, f_outBits, f_blocks, f_source, sa_it d c, a_left, a_right, a_bytes, a_used, a_turnedBit, a_blockLeft, a_blockRight, a_otherLeft, a_otherRight, a_row, a_residue, a_weight, a_out, a_starts) →
    wX_feed_12 post f_length f_size f_low f_outBits f_blocks f_source a_left a_right a_bytes a_used a_turnedBit a_blockLeft a_blockRight a_otherLeft a_otherRight a_row a_residue a_weight a_out a_starts n (nI k) c := by
  intro d
  induction d with
  | zero =>
    intro k n c hk hn H
    obtain ⟨n, rfl⟩ : ∃ m, n = m + 1 := ⟨n - 1, by omega⟩
    obtain rfl : k = 8 := by omega
    exact br_t (Int32.le_refl _) H
  | succ d ih =>
    intro k n c hk hn H
    obtain ⟨n, rfl⟩ : ∃ m, n = m + 1 := ⟨n - 1, by omega⟩
    have H' : post (f_length, f_size, f_low, f_outBits, f_blocks, f_source, sa_it d (sa_sp c), a_left, a_right, a_bytes, a_used, a_turnedBit, a_blockLeft, a_blockRight, a_otherLeft, a_otherRight, a_row, a_residue, a_weight, a_out, a_starts) := H
    refine br_f (nI_ge (b := 8) (by omega) (by omega)) (br_c (fun h => ?_) (fun h => ?_))
    · exact nm_r (e' := sa_sp c) (by unfold sa_sp; rw [if_pos h]) (nm_r (nI_1 k) (ih (k + 1) n _ (by omega) (by omega) H'))
    · exact nm_r (e' := sa_sp c) (by unfold sa_sp; rw [if_neg h]) (nm_r (nI_1 k) (ih (k + 1) n _ (by omega) (by omega) H'))
theorem sa_feed {post : SX → Prop} {b : Int32} (H : post (f_length, f_size, f_low, f_outBits, f_blocks, f_source, sa_fd f_check b, a_left, a_right, a_bytes, a_used, a_turnedBit, a_blockLeft, a_blockRight, a_otherLeft, a_otherRight, a_row, a_residue, a_weight, a_out, a_starts)) : wpX_feed post (f_length, f_size, f_low, f_outBits, f_blocks, f_source, f_check, a_left, a_right, a_bytes, a_used, a_turnedBit, a_blockLeft, a_blockRight, a_otherLeft, a_otherRight, a_row, a_residue, a_weight, a_out, a_starts) b :=
  nm_e ⟨9, sa_feed_l 8 0 9 _ (by omega) (by omega) H⟩
theorem sa_checkOf_l {post : Int32 → SX → Prop} (s us : Nat) (hs : s < 4) (hus : us ≤ 420) (hu : a_used s = nI us)
    (H : post (sa_cr (sa_lc a_bytes s) us) (f_length, f_size, f_low, f_outBits, f_blocks, f_source, sa_cr (sa_lc a_bytes s) us, a_left, a_right, a_bytes, a_used, a_turnedBit, a_blockLeft, a_blockRight, a_otherLeft, a_otherRight, a_row, a_residue, a_weight, a_out, a_starts)) : ∀ (d i n : Nat), i + d = us → d < n →
    wX_checkOf_8 post (nI s) n (nI i) f_length f_size f_low f_outBits f_blocks f_source (sa_cr (sa_lc a_bytes s) i) a_left a_right a_bytes a_used a_turnedBit a_blockLeft a_blockRight a_otherLeft a_otherRight a_row a_residue a_weight a_out a_starts := by
  intro d
  induction d with
  | zero =>
    intro i n hi hn
    obtain ⟨n, rfl⟩ : ∃ m, n = m + 1 := ⟨n - 1, by omega⟩
    obtain rfl : i = us := by omega
    refine ⟨vp_in_nI (by omega) (by omega), ?_⟩
    rw [nI_clamp (by omega), hu]
    exact br_t (Int32.le_refl _) H
  | succ d ih =>
    intro i n hi hn
    obtain ⟨n, rfl⟩ : ∃ m, n = m + 1 := ⟨n - 1, by omega⟩
    have e : (420 : Int32) * nI s + nI i = nI (420 * s + i) := by
      rw [show (420 : Int32) * nI s = nI (420 * s) from pk_mul 420 s, nI_add]
    have K := ih (i + 1) n (by omega) (by omega)
    rw [sa_cr_s] at K
    have K27 : ¬ (i = 1 ∨ i = 2) → wX_checkOf_27 post (wX_checkOf_8 post (nI s) n) (nI s) (nI i) f_length f_size f_low f_outBits f_blocks f_source (sa_cr (sa_lc a_bytes s) i) a_left a_right a_bytes a_used a_turnedBit a_blockLeft a_blockRight a_otherLeft a_otherRight a_row a_residue a_weight a_out a_starts := by
      intro h12
      rw [if_neg h12] at K
      unfold wX_checkOf_27
      rw [e, nI_clamp (by omega)]
      exact ⟨vp_in_nI (by omega) (by omega), sa_feed (nm_r (nI_1 i) K)⟩
    refine ⟨vp_in_nI (by omega) (by omega), ?_⟩
    rw [nI_clamp (by omega), hu]
    refine br_f (nI_ge (by omega) (by omega)) (pk_eq i 0 (fun e0 => K27 (by omega)) (fun e0 => ?_))
    refine pk_lt i 3 (fun h3 => ?_) (fun h3 => K27 (by omega))
    rw [if_pos (by omega)] at K
    exact nm_r (nI_1 i) K
theorem sa_checkOf {post : Int32 → SX → Prop} (s us : Nat) (hs : s < 4) (hus : us ≤ 420) (hu : a_used s = nI us)
    (H : post (sa_cr (sa_lc a_bytes s) us) (f_length, f_size, f_low, f_outBits, f_blocks, f_source, sa_cr (sa_lc a_bytes s) us, a_left, a_right, a_bytes, a_used, a_turnedBit, a_blockLeft, a_blockRight, a_otherLeft, a_otherRight, a_row, a_residue, a_weight, a_out, a_starts)) : wpX_checkOf post (f_length, f_size, f_low, f_outBits, f_blocks, f_source, f_check, a_left, a_right, a_bytes, a_used, a_turnedBit, a_blockLeft, a_blockRight, a_otherLeft, a_otherRight, a_row, a_residue, a_weight, a_out, a_starts) (nI s) :=
  ⟨us + 1, sa_checkOf_l s us hs hus hu H us 0 (us + 1) (by omega) (by omega)⟩
theorem sa_isWhole {post : Int32 → SX → Prop} (s us : Nat) (hs : s < 4) (hus : us ≤ 420) (hu : a_used s = nI us)
    (H1 : ∀ c, sa_ck (sa_lc a_bytes s) us → post 1 (f_length, f_size, f_low, f_outBits, f_blocks, f_source, c, a_left, a_right, a_bytes, a_used, a_turnedBit, a_blockLeft, a_blockRight, a_otherLeft, a_otherRight, a_row, a_residue, a_weight, a_out, a_starts)) (H0 : ∀ c, ¬ sa_ck (sa_lc a_bytes s) us → post 0 (f_length, f_size, f_low, f_outBits, f_blocks, f_source, c, a_left, a_right, a_bytes, a_used, a_turnedBit, a_blockLeft, a_blockRight, a_otherLeft, a_otherRight, a_row, a_residue, a_weight, a_out, a_starts)) : wpX_isWhole post (f_length, f_size, f_low, f_outBits, f_blocks, f_source, f_check, a_left, a_right, a_bytes, a_used, a_turnedBit, a_blockLeft, a_blockRight, a_otherLeft, a_otherRight, a_row, a_residue, a_weight, a_out, a_starts) (nI s) := by
  unfold wpX_isWhole
  dsimp only
  refine sa_checkOf s us hs hus hu ?_
  try dsimp only
  have e1 : (420 : Int32) * nI s + 1 = nI (420 * s + 1) := by
    rw [show (420 : Int32) * nI s = nI (420 * s) from pk_mul 420 s, nI_1]
  have e2 : (420 : Int32) * nI s + 2 = nI (420 * s + 2) := by
    rw [show (420 : Int32) * nI s = nI (420 * s) from pk_mul 420 s, show (2 : Int32) = nI 2 from rfl, nI_add]
  rw [e1, e2, nI_clamp (by omega), nI_clamp (by omega)]
  exact ⟨vp_in_nI (by omega) (by omega), vp_in_nI (by omega) (by omega), br_c (fun h => H1 _ h) (fun h => H0 _ h)⟩
theorem sa_turnBit {post : SX → Prop} (s t : Nat) (hs : s < 4) (ht : t < 3360)
    (H : post (f_length, f_size, f_low, f_outBits, f_blocks, f_source, f_check, a_left, a_right, upd a_bytes (420 * s + t / 8) (a_bytes (420 * s + t / 8) ^^^ sa_mk (t % 8)), a_used, a_turnedBit, a_blockLeft, a_blockRight, a_otherLeft, a_otherRight, a_row, a_residue, a_weight, a_out, a_starts)) : wpX_turnBit post (f_length, f_size, f_low, f_outBits, f_blocks, f_source, f_check, a_left, a_right, a_bytes, a_used, a_turnedBit, a_blockLeft, a_blockRight, a_otherLeft, a_otherRight, a_row, a_residue, a_weight, a_out, a_starts) (nI s) (nI t) := by
  have e : (420 : Int32) * nI s + (nI t >>> ((3 : Int32) &&& 31)) = nI (420 * s + t / 8) := by
    rw [show (420 : Int32) * nI s = nI (420 * s) from pk_mul 420 s, pk_shrN (by omega) _ 3 (by decide), nI_add]
  have em : (1 : Int32) <<< ((nI t &&& 7) &&& 31) = sa_mk (t % 8) := by
    rw [pk_andN (by omega) 3 (by decide)]; rfl
  have K : vp_in (nI (420 * s + t / 8)) 1680 := vp_in_nI (by omega) (by omega)
  refine ⟨by rw [e]; exact K, by rw [e]; exact K, nm_r (by rw [e, em, nI_clamp (by omega)]) H⟩
end
theorem sa_lc_tb (a : Nat → Int32) (s t : Nat) : sa_lc (upd a (420 * s + t / 8) (a (420 * s + t / 8) ^^^ sa_mk (t % 8))) s = sa_tb (sa_lc a s) t := by
  funext j
  unfold sa_lc sa_tb
  by_cases e : j = t / 8
  · rw [e, pk_us, pk_us]
  · rw [pk_un e, pk_un (by omega)]
theorem sa_lc_ne {a : Nat → Int32} {s r k : Nat} {v : Int32} (h : s ≠ r) (hk : k < 420) : ∀ j, j < 420 → sa_lc (upd a (420 * s + k) v) r j = sa_lc a r j := by
  intro j hj
  unfold sa_lc
  rw [pk_un (by omega)]
end
section
/-! a slot is finished -/
theorem sa_lo8_nI {n : Nat} (h : n < 256) : sa_lo8 (nI n) := by
  intro i hi
  show (BitVec.ofNat 32 n).getLsbD i = false
  rw [BitVec.getLsbD_ofNat, Nat.testBit_lt_two_pow (Nat.lt_of_lt_of_le h (Nat.pow_le_pow_right (n := 2) (by decide) hi)), Bool.and_false]
theorem sa_split8 (c : Int32) : ((c >>> ((8 : Int32) &&& 31)) <<< ((8 : Int32) &&& 31)) ||| (c &&& 255) = c := by
  apply b_ext
  intro i hi
  rw [b_or, b_and, b_255, b_shl8 _ hi, b_sshr8 _ (by omega)]
  by_cases h : 8 ≤ i
  · rw [decide_eq_true h, decide_eq_false (by omega), if_pos (by omega), show 8 + (i - 8) = i from by omega, Bool.true_and, Bool.and_false, Bool.or_false]
  · rw [decide_eq_false h, decide_eq_true (by omega), Bool.false_and, Bool.false_or, Bool.and_true]
theorem sa_hi8 {c : Int32} (h : sa_lo16 c) : sa_lo8 (c >>> ((8 : Int32) &&& 31)) := by
  intro i hi
  rcases Nat.lt_or_ge i 32 with h32 | h32
  · rw [b_sshr8 _ h32]
    split
    · exact h _ (by omega)
    · exact h _ (by omega)
  · exact b_big h32
theorem sa_and255 (c : Int32) : sa_lo8 (c &&& 255) := by
  intro i hi
  rw [b_and, b_255, decide_eq_false (by omega), Bool.and_false]
theorem sa_lc_upd (a : Nat → Int32) (s k : Nat) (v : Int32) : sa_lc (upd a (420 * s + k) v) s = upd (sa_lc a s) k v := by
  funext j
  unfold sa_lc
  by_cases e : j = k
  · rw [e, pk_us, pk_us]
  · rw [pk_un e, pk_un (by omega)]
def sa_ou (a a0 : Nat → Int32) (s : Nat) : Prop := ∀ j, j < 420 * s ∨ 420 * s + 420 ≤ j → a j = a0 j
theorem sa_ou_upd {a a0 : Nat → Int32} {s k : Nat} {v : Int32} (h : sa_ou a a0 s) (hk : k < 420) : sa_ou (upd a (420 * s + k) v) a0 s := by
  intro j hj
  rw [pk_un (by omega)]
  exact h j hj
def sa_FH (B : Nat → Int32) (n : Nat) (st : Nat → Nat) (k : Nat) : Prop := B 0 = nI n ∧ ∀ c, c < k → B (3 + 2 * c) = nI (st c / 256) ∧ B (3 + 2 * c + 1) = nI (st c % 256)
theorem sa_FH_s {B : Nat → Int32} {n k : Nat} {st : Nat → Nat} (h : sa_FH B n st k) : sa_FH (upd (upd B (3 + 2 * k) (nI (st k / 256))) (3 + 2 * k + 1) (nI (st k % 256))) n st (k + 1) := by
  refine ⟨by rw [pk_un (by omega), pk_un (by omega)]; exact h.1, fun c hc => ?_⟩
  by_cases e : c = k
  · subst e
    exact ⟨by rw [pk_un (by omega), pk_us], by rw [pk_us]⟩
  · rw [pk_un (by omega), pk_un (by omega), pk_un (by omega), pk_un (by omega)]
    exact h.2 c (by omega)
theorem sa_FH_u {B : Nat → Int32} {n k j : Nat} {st : Nat → Nat} {v : Int32} (h : sa_FH B n st k) (hj : 3 + 2 * k ≤ j ∨ j = 1 ∨ j = 2) : sa_FH (upd B j v) n st k := by
  refine ⟨by rw [pk_un (by omega)]; exact h.1, fun c hc => ?_⟩
  rw [pk_un (by omega), pk_un (by omega)]
  exact h.2 c hc
/-- all that finish leaves: the slot's bytes B, of which us are used -/
def sa_Fin (B : Nat → Int32) (out : Nat → Int32) (n k T us : Nat) (st : Nat → Nat) : Prop :=
  sa_FH B n st (k + 1) ∧ (∀ i, i < (T + 7) / 8 → B (3 + 2 * (k + 1) + i) = out i) ∧ sa_ck B us ∧ (∀ j, j < us → sa_lo8 (B j))
theorem sa_Fin_mk {B out : Nat → Int32} {n k T us : Nat} {st : Nat → Nat} (hn : n ≤ 96) (hst : ∀ c, c < k + 1 → st c < 65536) (hus : us = 3 + 2 * (k + 1) + (T + 7) / 8) (hby : sa_By out)
    (h1 : sa_FH B n st (k + 1)) (h2 : ∀ i, i < (T + 7) / 8 → B (3 + 2 * (k + 1) + i) = out i) :
    sa_Fin (upd (upd B 1 (sa_cr B us >>> ((8 : Int32) &&& 31))) 2 (sa_cr B us &&& 255)) out n k T us st := by
  have hlo : ∀ j, j < us → ¬ (j = 1 ∨ j = 2) → sa_lo8 (B j) := by
    intro j hj h12
    by_cases e0 : j = 0
    · rw [e0, h1.1]; exact sa_lo8_nI (by omega)
    · by_cases eh : j < 3 + 2 * (k + 1)
      · obtain ⟨c, hc, e⟩ : ∃ c, c < k + 1 ∧ (j = 3 + 2 * c ∨ j = 3 + 2 * c + 1) := ⟨(j - 3) / 2, by omega, by omega⟩
        have hs := hst c hc
        rcases e with e | e
        · rw [e, (h1.2 c hc).1]; exact sa_lo8_nI (by omega)
        · rw [e, (h1.2 c hc).2]; exact sa_lo8_nI (by omega)
      · obtain ⟨i, rfl⟩ : ∃ i, j = 3 + 2 * (k + 1) + i := ⟨j - (3 + 2 * (k + 1)), by omega⟩
        rw [h2 i (by omega)]
        exact hby i
  have hcl := sa_cr_lo hlo us (Nat.le_refl _)
  refine ⟨sa_FH_u (sa_FH_u h1 (by omega)) (by omega), fun i hi => by rw [pk_un (by omega), pk_un (by omega)]; exact h2 i hi, ?_, fun j hj => ?_⟩
  · unfold sa_ck
    rw [sa_cr_c (C := B) us (fun j _ h12 => by rw [pk_un (by omega), pk_un (by omega)]), pk_us, pk_un (by omega), pk_us, sa_split8]
  · by_cases e2 : j = 2
    · rw [e2, pk_us]; exact sa_and255 _
    · rw [pk_un e2]
      by_cases e1 : j = 1
      · rw [e1, pk_us]; exact sa_hi8 hcl
      · rw [pk_un e1]; exact hlo j hj (by omega)
section
variable {f_length f_size f_low f_outBits f_blocks f_source f_check : Int32} {a_left a_right a_bytes a_used a_turnedBit a_blockLeft a_blockRight a_otherLeft a_otherRight a_row a_residue a_weight a_out a_starts : Nat → Int32}
theorem sa_finish119 {post : SX → Prop} (s n k T M us : Nat) (st : Nat → Nat) (by0 : Nat → Int32) (hs : s < 4) (hn : n ≤ 96) (hk : k ≤ 6) (hT : T ≤ 2736) (hM : M = (T + 7) / 8) (hus : us = 3 + 2 * (k + 1) + M)
    (hst : ∀ c, c < k + 1 → st c < 65536) (hby : sa_By a_out)
    (H : ∀ (ck : Int32) (bs : Nat → Int32), sa_ou bs by0 s → sa_Fin (sa_lc bs s) a_out n k T us st → post (f_length, f_size, f_low, f_outBits, f_blocks, f_source, ck, a_left, a_right, bs, upd a_used s (nI us), upd a_turnedBit s (-1), a_blockLeft, a_blockRight, a_otherLeft, a_otherRight, a_row, a_residue, a_weight, a_out, a_starts)) :
    ∀ (d i m : Nat) (bs : Nat → Int32), i + d = M → d < m → sa_ou bs by0 s → sa_FH (sa_lc bs s) n st (k + 1) → (∀ j, j < i → sa_lc bs s (3 + 2 * (k + 1) + j) = a_out j) →
    wX_finish_119 post (nI s) (nI (420 * s)) (nI (3 + 2 * (k + 1))) (nI M) f_length f_size f_low f_outBits f_blocks f_source f_check m (nI i) a_left a_right bs a_used a_turnedBit a_blockLeft a_blockRight a_otherLeft a_otherRight a_row a_residue a_weight a_out a_starts := by
  intro d
  induction d with
  | zero =>
    intro i m bs hi hm ho hF hB
    obtain ⟨m, rfl⟩ : ∃ q, m = q + 1 := ⟨m - 1, by omega⟩
    obtain rfl : i = M := by omega
    refine br_t (Int32.le_refl _) ⟨vp_in_nI (by omega) (by omega), nm_r (e' := upd a_used s (nI us)) (by rw [nI_clamp (by omega), nI_add, ← hus]) ?_⟩
    refine sa_checkOf s us hs (by omega) pk_us ?_
    try dsimp only
    rw [nI_1, show nI (420 * s) + 2 = nI (420 * s + 2) from nI_add (420 * s) 2, nI_clamp (by omega), nI_clamp (by omega), nI_clamp (by omega)]
    refine ⟨vp_in_nI (by omega) (by omega), nm_e ⟨vp_in_nI (by omega) (by omega), nm_e ⟨vp_in_nI (by omega) (by omega), nm_e (H _ _ (sa_ou_upd (sa_ou_upd ho (by omega)) (by omega)) ?_)⟩⟩⟩
    rw [sa_lc_upd, sa_lc_upd]
    rw [hM] at hus hB
    exact sa_Fin_mk hn hst hus hby hF hB
  | succ d ih =>
    intro i m bs hi hm ho hF hB
    obtain ⟨m, rfl⟩ : ∃ q, m = q + 1 := ⟨m - 1, by omega⟩
    have e : nI (420 * s) + nI (3 + 2 * (k + 1)) + nI i = nI (420 * s + (3 + 2 * (k + 1) + i)) := by
      rw [nI_add, nI_add]
      exact congrArg nI (by omega)
    refine br_f (nI_ge (by omega) (by omega)) ⟨vp_in_nI (by omega) (by omega), by rw [e]; exact vp_in_nI (by omega) (by omega), ?_⟩
    refine nm_r (e' := upd bs (420 * s + (3 + 2 * (k + 1) + i)) (a_out i)) (by rw [e, nI_clamp (by omega), nI_clamp (by omega)]) (nm_r (nI_1 i) ?_)
    refine ih (i + 1) m _ (by omega) (by omega) (sa_ou_upd ho (by omega)) (by rw [sa_lc_upd]; exact sa_FH_u hF (by omega)) (fun j hj => ?_)
    rw [sa_lc_upd]
    by_cases ej : j = i
    · rw [ej, pk_us]
    · rw [pk_un (by omega)]; exact hB j (by omega)
theorem sa_finish29 {post : SX → Prop} (s n k T us : Nat) (st : Nat → Nat) (by0 : Nat → Int32) (hs : s < 4) (hn : n ≤ 96) (hk : k ≤ 6) (hT : T ≤ 2736) (hus : us = 3 + 2 * (k + 1) + (T + 7) / 8)
    (hst : ∀ c, c < k + 1 → st c < 65536 ∧ a_starts c = nI (st c)) (hby : sa_By a_out)
    (H : ∀ (ck : Int32) (bs : Nat → Int32), sa_ou bs by0 s → sa_Fin (sa_lc bs s) a_out n k T us st → post (f_length, f_size, f_low, nI T, nI k, f_source, ck, a_left, a_right, bs, upd a_used s (nI us), upd a_turnedBit s (-1), a_blockLeft, a_blockRight, a_otherLeft, a_otherRight, a_row, a_residue, a_weight, a_out, a_starts)) :
    ∀ (d b m : Nat) (bs : Nat → Int32), b + d = k + 1 → d < m → sa_ou bs by0 s → sa_FH (sa_lc bs s) n st b →
    wX_finish_29 post (nI s) (nI (420 * s)) f_length f_size f_low (nI T) (nI k) f_source f_check m (nI b) a_left a_right bs a_used a_turnedBit a_blockLeft a_blockRight a_otherLeft a_otherRight a_row a_residue a_weight a_out a_starts := by
  intro d
  induction d with
  | zero =>
    intro b m bs hb hm ho hF
    obtain ⟨m, rfl⟩ : ∃ q, m = q + 1 := ⟨m - 1, by omega⟩
    obtain rfl : b = k + 1 := by omega
    refine br_t (nI_lt (by omega) (by omega)) (nm_r (e' := nI (3 + 2 * (k + 1))) ?_ (nm_r (e' := nI ((T + 7) / 8)) ?_ ⟨(T + 7) / 8 + 1, ?_⟩))
    · rw [nI_1, show (2 : Int32) * nI (k + 1) = nI (2 * (k + 1)) from pk_mul 2 _]
      exact nI_add 3 _
    · rw [show nI T + 7 = nI (T + 7) from nI_add T 7]
      exact pk_shrN (by omega) _ 3 (by decide)
    · exact sa_finish119 s n k T ((T + 7) / 8) us st by0 hs hn hk hT rfl hus (fun c hc => (hst c hc).1) hby H ((T + 7) / 8) 0 _ bs (by omega) (by omega) ho hF (fun j hj => absurd hj (by omega))
  | succ d ih =>
    intro b m bs hb hm ho hF
    obtain ⟨m, rfl⟩ : ∃ q, m = q + 1 := ⟨m - 1, by omega⟩
    obtain ⟨hs1, hs2⟩ := hst b (by omega)
    have e : nI (420 * s) + 3 + 2 * nI b = nI (420 * s + (3 + 2 * b)) := by
      rw [show (2 : Int32) * nI b = nI (2 * b) from pk_mul 2 b, show nI (420 * s) + 3 = nI (420 * s + 3) from nI_add _ 3, nI_add]
      exact congrArg nI (by omega)
    refine br_f (nI_nlt (by omega) (by omega)) ?_
    rw [e, nI_1, nI_clamp (by omega), nI_clamp (by omega), nI_clamp (by omega), hs2]
    rw [show nI (st b) >>> ((8 : Int32) &&& 31) = nI (st b / 256) from pk_shrN (by omega) _ 8 (by decide), show nI (st b) &&& 255 = nI (st b % 256) from pk_andN (by omega) 8 (by decide)]
    refine ⟨vp_in_nI (by omega) (by omega), vp_in_nI (by omega) (by omega), nm_e ⟨vp_in_nI (by omega) (by omega), vp_in_nI (by omega) (by omega), nm_e ?_⟩⟩
    refine nm_r (nI_1 b) (ih (b + 1) m _ (by omega) (by omega) (sa_ou_upd (k := 3 + 2 * b + 1) (sa_ou_upd (k := 3 + 2 * b) ho (by omega)) (by omega)) ?_)
    rw [show 420 * s + (3 + 2 * b) + 1 = 420 * s + (3 + 2 * b + 1) from by omega, sa_lc_upd, sa_lc_upd]
    exact sa_FH_s hF
theorem sa_finish {post : SX → Prop} {y : Int32} (s n k T us : Nat) (st : Nat → Nat) (hs : s < 4) (hn : n ≤ 96) (hk : k ≤ 6) (hT : T ≤ 2736) (hus : us = 3 + 2 * (k + 1) + (T + 7) / 8) (hy : y = nI n)
    (hst : ∀ c, c < k → a_starts c = nI (st c)) (hst2 : ∀ c, c < k + 1 → st c < 65536) (hsk : st k = T) (hby : sa_By a_out)
    (H : ∀ (ck : Int32) (bs sts : Nat → Int32), sa_ou bs a_bytes s → sa_Fin (sa_lc bs s) a_out n k T us st → post (f_length, f_size, f_low, nI T, nI k, f_source, ck, a_left, a_right, bs, upd a_used s (nI us), upd a_turnedBit s (-1), a_blockLeft, a_blockRight, a_otherLeft, a_otherRight, a_row, a_residue, a_weight, a_out, sts)) :
    wpX_finish post (f_length, f_size, f_low, nI T, nI k, f_source, f_check, a_left, a_right, a_bytes, a_used, a_turnedBit, a_blockLeft, a_blockRight, a_otherLeft, a_otherRight, a_row, a_residue, a_weight, a_out, a_starts) (nI s) y := by
  subst hy
  refine nm_r (e' := nI (420 * s)) (pk_mul 420 s) ⟨vp_in_nI (by omega) (by omega), nm_r (e' := upd a_bytes (420 * s + 0) (nI n)) (by rw [nI_clamp (by omega)]; rfl) ⟨vp_in_nI (by omega) (by omega), nm_r (e' := upd a_starts k (nI T)) (by rw [nI_clamp (by omega)]) ⟨k + 2, ?_⟩⟩⟩
  refine sa_finish29 s n k T us st a_bytes hs hn hk hT hus (fun c hc => ⟨hst2 c hc, ?_⟩) hby (fun ck bs ho hf => H ck bs _ ho hf) (k + 1) 0 (k + 2) _ (by omega) (by omega) (sa_ou_upd (fun _ _ => rfl) (by omega)) ⟨?_, fun c hc => absurd hc (by omega)⟩
  · by_cases e : c = k
    · rw [e, pk_us, hsk]
    · rw [pk_un e]; exact hst c (by omega)
  · rw [sa_lc_upd, pk_us]
end
end
section
/-! blocks one after another, and the relation of a slot -/
def sa_WI (out sts L R : Nat → Int32) (n k : Nat) (ls : Nat → List Bool) : Prop :=
  sa_By out ∧ sa_Ho (sa_gb out) 0 (sa_cat ls k) ∧ (∀ b, b < k → sts b = nI (sa_cat ls b).length) ∧
  (∀ b, b < k → (ls b).length ≤ 456 ∧ sa_EB (sa_sz n b) (fun i => L (16 * b + i)) (fun i => R (16 * b + i)) (ls b))
theorem sa_cat_c {ls ms : Nat → List Bool} : ∀ k, (∀ b, b < k → ls b = ms b) → sa_cat ls k = sa_cat ms k
  | 0, _ => rfl
  | k + 1, h => by
    show sa_cat ls k ++ ls k = sa_cat ms k ++ ms k
    rw [h k (by omega), sa_cat_c k (fun b hb => h b (by omega))]
theorem sa_WI_0 {out sts L R : Nat → Int32} {n : Nat} (h : sa_By out) : sa_WI out sts L R n 0 (fun _ => []) :=
  ⟨h, trivial, fun b hb => absurd hb (by omega), fun b hb => absurd hb (by omega)⟩
theorem sa_WI_s {out sts L R : Nat → Int32} {n k p : Nat} {ls : Nat → List Bool} (h : sa_WI out sts L R n k ls) (hp : p = (sa_cat ls k).length) (l : List Bool) (hl : l.length ≤ 456)
    (hE : sa_EB (sa_sz n k) (fun i => L (16 * k + i)) (fun i => R (16 * k + i)) l) :
    ∃ ms, sa_WI (sa_pL l out p) (upd sts k (nI p)) L R n (k + 1) ms ∧ (sa_cat ms (k + 1)).length = p + l.length := by
  obtain ⟨h1, h2, h3, h4⟩ := h
  refine ⟨fun b => if b = k then l else ls b, ?_⟩
  have ec : ∀ b, b ≤ k → sa_cat (fun b => if b = k then l else ls b) b = sa_cat ls b := fun b hb => sa_cat_c b (fun c hc => if_neg (by omega))
  have es : sa_cat (fun b => if b = k then l else ls b) (k + 1) = sa_cat ls k ++ l := by
    show sa_cat (fun b => if b = k then l else ls b) k ++ (if k = k then l else ls k) = _
    rw [ec k (Nat.le_refl _), if_pos rfl]
  refine ⟨⟨sa_By_pL l p h1, ?_, fun b hb => ?_, fun b hb => ?_⟩, ?_⟩
  · rw [es, sa_Ho_app, Nat.zero_add, ← hp]
    refine ⟨sa_Ho_sh _ 0 0 (fun i hi => ?_) h2, sa_pL_ho l out p⟩
    exact sa_pL_lo l out p _ (by omega)
  · rw [ec b (by omega)]
    by_cases e : b = k
    · rw [e, pk_us, hp]
    · rw [pk_un e]; exact h3 b (by omega)
  · dsimp only
    by_cases e : b = k
    · rw [if_pos e, e]
      exact ⟨hl, hE⟩
    · rw [if_neg e]; exact h4 b (by omega)
  · rw [es, List.length_append, hp]
theorem sa_WI_le {out sts L R : Nat → Int32} {n k : Nat} {ls : Nat → List Bool} (h : sa_WI out sts L R n k ls) : ∀ b, b ≤ k → (sa_cat ls b).length ≤ 456 * b := sa_cat_le (fun b hb => (h.2.2.2 b hb).1)
theorem sa_Pk_mk {B out sts L R : Nat → Int32} {n T us : Nat} {ls : Nat → List Bool} (hn : n ≤ 96) (hT : T = (sa_cat ls (sa_nb n)).length) (h : sa_WI out sts L R n (sa_nb n) ls) (hus : us = 3 + 2 * (sa_nb n + 1) + (T + 7) / 8)
    (hF : sa_Fin B out n (sa_nb n) T us (fun b => (sa_cat ls b).length)) (hsm : ∀ i, i < n → sa_sm (L i) ∧ sa_sm (R i)) : sa_Pk B us n L R ls := by
  obtain ⟨f1, f2, f3, f4⟩ := hF
  refine ⟨hn, f1.1, h.2.2.2, fun b hb => f1.2 b (by omega), ?_, by rw [hus, hT], f4, hsm⟩
  refine sa_Ho_sh _ _ 0 (fun i hi => ?_) h.2.1
  unfold sa_gb
  rw [show (8 * (3 + 2 * (sa_nb n + 1)) + i) / 8 = 3 + 2 * (sa_nb n + 1) + i / 8 from by omega, show (8 * (3 + 2 * (sa_nb n + 1)) + i) % 8 = i % 8 from by omega, f2 (i / 8) (by omega), Nat.zero_add]
/-! congruences -/
theorem sa_Pk_c {B C L R L' R' : Nat → Int32} {us n : Nat} {ls : Nat → List Bool} (hB : ∀ j, j < us → B j = C j) (hL : ∀ i, i < n → L i = L' i ∧ R i = R' i) (h : sa_Pk B us n L R ls) : sa_Pk C us n L' R' ls := by
  have hus := sa_Pk_us h
  obtain ⟨h1, h2, h3, h4, h5, h6, h7, h8⟩ := h
  refine ⟨h1, by rw [← hB 0 (by omega)]; exact h2, fun b hb => ?_, fun b hb => ?_, ?_, h6, fun j hj => by rw [← hB j hj]; exact h7 j hj, fun i hi => by rw [← (hL i hi).1, ← (hL i hi).2]; exact h8 i hi⟩
  · have hbn : 16 * b < n := by unfold sa_nb at hb; omega
    have hz := sa_sz_le hbn
    exact ⟨(h3 b hb).1, sa_EB_c (fun j hj => (hL _ (by omega)).1) (fun j hj => (hL _ (by omega)).2) (h3 b hb).2⟩
  · rw [← hB _ (by omega), ← hB _ (by omega)]; exact h4 b hb
  · refine sa_Ho_sh _ _ _ (fun i hi => ?_) h5
    unfold sa_gb
    rw [hB _ (by omega)]
theorem sa_ck_c {B C : Nat → Int32} {us : Nat} (h3 : 3 ≤ us) (hB : ∀ j, j < us → B j = C j) (h : sa_ck B us) : sa_ck C us := by
  unfold sa_ck at *
  rw [← sa_cr_c us (fun j hj _ => hB j hj), ← hB 1 (by omega), ← hB 2 (by omega)]
  exact h
theorem sa_tb_c {B C : Nat → Int32} {us t : Nat} (ht : t < 8 * us) (hB : ∀ j, j < us → B j = C j) : ∀ j, j < us → sa_tb B t j = sa_tb C t j := by
  intro j hj
  unfold sa_tb
  by_cases e : j = t / 8
  · rw [e, pk_us, pk_us, hB _ (by omega)]
  · rw [pk_un e, pk_un e, hB j hj]
def sa_Slot (B : Nat → Int32) (used turned state len : Int32) (L R : Nat → Int32) : Prop :=
  (used = 0 ∧ state = 0) ∨
  (state = 1 ∧ ∃ us n ls, used = nI us ∧ turned = -1 ∧ len = nI n ∧ sa_Pk B us n L R ls ∧ sa_ck B us) ∨
  (state = 2 ∧ ∃ us n ls t, used = nI us ∧ turned = nI t ∧ t < 8 * us ∧ len = nI n ∧ sa_Pk (sa_tb B t) us n L R ls ∧ sa_ck (sa_tb B t) us)
theorem sa_Slot_c {B C L R L' R' : Nat → Int32} {used turned state len : Int32} (hB : ∀ j, j < 420 → B j = C j) (hL : ∀ i, i < 96 → L i = L' i ∧ R i = R' i) (h : sa_Slot B used turned state len L R) : sa_Slot C used turned state len L' R' := by
  rcases h with h | ⟨h1, us, n, ls, h2, h3, h4, h5, h6⟩ | ⟨h1, us, n, ls, t, h2, h3, ht, h4, h5, h6⟩
  · exact Or.inl h
  · have hus := sa_Pk_us h5
    exact Or.inr (Or.inl ⟨h1, us, n, ls, h2, h3, h4, sa_Pk_c (fun j hj => hB j (by omega)) (fun i hi => hL i (by have := h5.1; omega)) h5, sa_ck_c (by omega) (fun j hj => hB j (by omega)) h6⟩)
  · have hus := sa_Pk_us h5
    have hB' := sa_tb_c (us := us) ht (fun j hj => hB j (by omega))
    exact Or.inr (Or.inr ⟨h1, us, n, ls, t, h2, h3, ht, h4, sa_Pk_c hB' (fun i hi => hL i (by have := h5.1; omega)) h5, sa_ck_c (by omega) hB' h6⟩)
section
variable {f_length f_size f_low f_outBits f_blocks f_source f_check : Int32} {a_left a_right a_bytes a_used a_turnedBit a_blockLeft a_blockRight a_otherLeft a_otherRight a_row a_residue a_weight a_out a_starts : Nat → Int32}
theorem sa_packHand43 {post : SX → Prop} {ef : Int32}
    {J : Int32 → Int32 → Int32 → Int32 → Int32 → Int32 → Int32 → Int32 → (Nat → Int32) → (Nat → Int32) → (Nat → Int32) → (Nat → Int32) → (Nat → Int32) → (Nat → Int32) → (Nat → Int32) → (Nat → Int32) → (Nat → Int32) → (Nat → Int32) → (Nat → Int32) → (Nat → Int32) → (Nat → Int32) → (Nat → Int32) → Prop}
    {x1 : Int32} (sz p k : Nat) (hz : sz ≤ 16) (hz1 : 1 ≤ sz) (hk : k < 6) (hkz : 16 * k + sz ≤ 96) (hp : p + 456 ≤ 3360) (hl : ∀ j, j < sz → sa_sm (a_left (16 * k + j)) ∧ sa_sm (a_right (16 * k + j)))
    (H : ∀ (l : List Bool) (low : Int32) (bl br ro res wt : Nat → Int32), sa_EB sz (fun i => a_left (16 * k + i)) (fun i => a_right (16 * k + i)) l → l.length ≤ 456 →
      J (nI (16 * (k + 1))) f_length (nI sz) low (nI (p + l.length)) (nI (k + 1)) f_source f_check a_left a_right a_bytes a_used a_turnedBit bl br a_otherLeft a_otherRight ro res wt (sa_pL l a_out p) (upd a_starts k (nI p))) :
    ∀ (d i m : Nat) (bl br : Nat → Int32), i + d = sz → d < m → (∀ j, j < i → bl j = a_left (16 * k + j) ∧ br j = a_right (16 * k + j)) →
    wX_packHand_43 post J x1 ef (nI (16 * k)) f_length (nI sz) f_low (nI p) (nI k) f_source f_check m (nI i) a_left a_right a_bytes a_used a_turnedBit bl br a_otherLeft a_otherRight a_row a_residue a_weight a_out a_starts := by
  intro d
  induction d with
  | zero =>
    intro i m bl br hi hm hb
    obtain ⟨m, rfl⟩ : ∃ q, m = q + 1 := ⟨m - 1, by omega⟩
    obtain rfl : i = sz := by omega
    refine br_t (Int32.le_refl _) (sa_writeBlock i p k hz hz1 hk hp (fun j hj => ?_) (fun l low ro res wt hE hlen => ?_))
    · rw [(hb j hj).1, (hb j hj).2]
      exact ⟨sa_sm_bd (hl j hj).1, sa_sm_bd (hl j hj).2⟩
    · refine nm_r (e' := nI (16 * (k + 1))) (nI_add (16 * k) 16) ?_
      exact H l low bl br ro res wt (sa_EB_c (fun j hj => (hb j hj).1) (fun j hj => (hb j hj).2) hE) hlen
  | succ d ih =>
    intro i m bl br hi hm hb
    obtain ⟨m, rfl⟩ : ∃ q, m = q + 1 := ⟨m - 1, by omega⟩
    refine br_f (nI_ge (by omega) (by omega)) ?_
    rw [nI_add, nI_clamp (by omega), nI_clamp (by omega)]
    refine ⟨vp_in_nI (by omega) (by omega), vp_in_nI (by omega) (by omega), nm_e ⟨vp_in_nI (by omega) (by omega), vp_in_nI (by omega) (by omega), nm_e (nm_r (nI_1 i) (ih (i + 1) m _ _ (by omega) (by omega) (fun j hj => ?_)))⟩⟩
    by_cases e : j = i
    · rw [e, pk_us, pk_us]; exact ⟨rfl, rfl⟩
    · rw [pk_un e, pk_un e]; exact hb j (by omega)
theorem sa_nb_of {n k : Nat} (h1 : k ≤ sa_nb n) (h2 : n ≤ 16 * k) : k = sa_nb n := by
  unfold sa_nb at *
  omega
theorem sa_nb_lt {n k : Nat} (h : 16 * k < n) : k < sa_nb n := by
  unfold sa_nb
  omega
theorem sa_nb_le {n k : Nat} (h : k ≤ sa_nb n) (hn : n ≤ 96) : k ≤ 6 := by
  unfold sa_nb at h
  omega
/-- finish behind all blocks -/
theorem sa_finishP {post : SX → Prop} {y : Int32} (s n T : Nat) (L R : Nat → Int32) (ls : Nat → List Bool) (hs : s < 4) (hn : n ≤ 96) (hy : y = nI n) (hT : T = (sa_cat ls (sa_nb n)).length) (hW : sa_WI a_out a_starts L R n (sa_nb n) ls) (hsm : ∀ i, i < n → sa_sm (L i) ∧ sa_sm (R i))
    (H : ∀ (us : Nat) (ck : Int32) (bs sts : Nat → Int32), sa_ou bs a_bytes s → sa_Pk (sa_lc bs s) us n L R ls → sa_ck (sa_lc bs s) us → post (f_length, f_size, f_low, nI T, nI (sa_nb n), f_source, ck, a_left, a_right, bs, upd a_used s (nI us), upd a_turnedBit s (-1), a_blockLeft, a_blockRight, a_otherLeft, a_otherRight, a_row, a_residue, a_weight, a_out, sts)) :
    wpX_finish post (f_length, f_size, f_low, nI T, nI (sa_nb n), f_source, f_check, a_left, a_right, a_bytes, a_used, a_turnedBit, a_blockLeft, a_blockRight, a_otherLeft, a_otherRight, a_row, a_residue, a_weight, a_out, a_starts) (nI s) y := by
  have hk := sa_nb_le (Nat.le_refl (sa_nb n)) hn
  have hle := sa_WI_le hW
  have hle' := hle (sa_nb n) (Nat.le_refl _)
  refine sa_finish s n (sa_nb n) T (3 + 2 * (sa_nb n + 1) + (T + 7) / 8) (fun b => (sa_cat ls b).length) hs hn hk (by omega) rfl hy hW.2.2.1 (fun c hc => ?_) hT.symm hW.1 (fun ck bs sts ho hF => H _ ck bs sts ho (sa_Pk_mk hn hT hW rfl hF hsm) hF.2.2.1)
  have := hle c (by omega)
  show (sa_cat ls c).length < 65536
  omega
theorem sa_packHand6 {post : SX → Prop} {ef : Int32} (s n : Nat) (hs : s < 4) (hn : n ≤ 96) (hsm : ∀ i, i < n → sa_sm (a_left i) ∧ sa_sm (a_right i))
    (H : ∀ (us : Nat) (ls : Nat → List Bool) (size low outBits blocks ck : Int32) (bs bl br ro res wt out sts : Nat → Int32), sa_By out → sa_ou bs a_bytes s → sa_Pk (sa_lc bs s) us n a_left a_right ls → sa_ck (sa_lc bs s) us →
      post (nI n, size, low, outBits, blocks, f_source, ck, a_left, a_right, bs, upd a_used s (nI us), upd a_turnedBit s (-1), bl, br, a_otherLeft, a_otherRight, ro, res, wt, out, sts)) :
    ∀ (d k m : Nat) (size low : Int32) (bl br ro res wt out sts : Nat → Int32) (ls : Nat → List Bool), k + d = sa_nb n → d < m → sa_WI out sts a_left a_right n k ls →
    wX_packHand_6 post (nI s) ef m (nI (16 * k)) (nI n) size low (nI (sa_cat ls k).length) (nI k) f_source f_check a_left a_right a_bytes a_used a_turnedBit bl br a_otherLeft a_otherRight ro res wt out sts := by
  intro d
  induction d with
  | zero =>
    intro k m size low bl br ro res wt out sts ls hk hm hW
    obtain ⟨m, rfl⟩ : ∃ q, m = q + 1 := ⟨m - 1, by omega⟩
    obtain rfl : k = sa_nb n := by omega
    have hk6 := sa_nb_le (Nat.le_refl (sa_nb n)) hn
    refine br_t (nI_le (by unfold sa_nb; omega) (by omega)) ?_
    refine sa_finishP s n _ a_left a_right ls hs hn rfl rfl hW hsm (fun us ck bs sts' ho hP hc => ?_)
    try dsimp only
    exact H us ls size low _ _ ck bs bl br ro res wt out sts' hW.1 ho hP hc
  | succ d ih =>
    intro k m size low bl br ro res wt out sts ls hk hm hW
    obtain ⟨m, rfl⟩ : ∃ q, m = q + 1 := ⟨m - 1, by omega⟩
    have hkn : 16 * k < n := by unfold sa_nb at hk; omega
    obtain ⟨z1, z2, z3, z4⟩ := sa_sz_le hkn
    have hk6 := sa_nb_le (Nat.le_refl (sa_nb n)) hn
    have hle := sa_WI_le hW k (Nat.le_refl _)
    have e : nI n - nI (16 * k) = nI (n - 16 * k) := pk_sub (by omega)
    have K : wX_packHand_43 post (wX_packHand_6 post (nI s) ef m) (nI s) ef (nI (16 * k)) (nI n) (nI (sa_sz n k)) low (nI (sa_cat ls k).length) (nI k) f_source f_check 17 (nI 0) a_left a_right a_bytes a_used a_turnedBit bl br a_otherLeft a_otherRight ro res wt out sts := by
      refine sa_packHand43 (sa_sz n k) _ k z2 z1 (by omega) (by omega) (by omega) (fun j hj => hsm _ (by omega)) (fun l low' bl' br' ro' res' wt' hE hl => ?_) (sa_sz n k) 0 17 bl br (by omega) (by omega) (fun j hj => absurd hj (by omega))
      obtain ⟨ms, hW', hlen⟩ := sa_WI_s hW rfl l hl hE
      rw [← hlen]
      exact ih (k + 1) m _ _ _ _ _ _ _ _ _ ms (by omega) (by omega) hW'
    refine br_f (nI_ge (by omega) (by omega)) ?_
    rw [e]
    unfold sa_sz at K
    refine pk_le 16 (n - 16 * k) (fun h => ?_) (fun h => ?_)
    · rw [if_pos h] at K
      exact ⟨17, K⟩
    · rw [if_neg (by omega)] at K
      exact nm_e ⟨17, K⟩
theorem sa_packHand {post : SX → Prop} {ef : Int32} (s n : Nat) (hs : s < 4) (hn : n ≤ 96) (hby : sa_By a_out) (hsm : ∀ i, i < n → sa_sm (a_left i) ∧ sa_sm (a_right i))
    (H : ∀ (us : Nat) (ls : Nat → List Bool) (size low outBits blocks ck : Int32) (bs bl br ro res wt out sts : Nat → Int32), sa_By out → sa_ou bs a_bytes s → sa_Pk (sa_lc bs s) us n a_left a_right ls → sa_ck (sa_lc bs s) us →
      post (nI n, size, low, outBits, blocks, f_source, ck, a_left, a_right, bs, upd a_used s (nI us), upd a_turnedBit s (-1), bl, br, a_otherLeft, a_otherRight, ro, res, wt, out, sts)) :
    wpX_packHand post (nI n, f_size, f_low, f_outBits, f_blocks, f_source, f_check, a_left, a_right, a_bytes, a_used, a_turnedBit, a_blockLeft, a_blockRight, a_otherLeft, a_otherRight, a_row, a_residue, a_weight, a_out, a_starts) (nI s) ef :=
  ⟨sa_nb n + 1, sa_packHand6 s n hs hn hsm H (sa_nb n) 0 (sa_nb n + 1) f_size f_low a_blockLeft a_blockRight a_row a_residue a_weight a_out a_starts (fun _ => []) (by omega) (by omega) (sa_WI_0 hby)⟩
end
end
section
/-! the relation; small things of both sides -/
def sa_Hd (n : Nat) (lf rt sm : Nat → Int32) : Prop := ∀ i, i < n → lf i = sm i ∧ rt i = sm (96 + i) ∧ sa_sm (lf i) ∧ sa_sm (rt i)
def sa_SS (bs us tu le sm st : Nat → Int32) : Prop := ∀ s, s < 4 → sa_Slot (sa_lc bs s) (us s) (tu s) (st s) (le (s + 1)) (fun i => sm (192 * (s + 1) + i)) (fun i => sm (192 * (s + 1) + (96 + i)))
def sa_RL (len : Int32) (lf rt bs us tu ou le sm st : Nat → Int32) : Prop :=
  (∃ n, n ≤ 96 ∧ len = nI n ∧ le 0 = nI n ∧ sa_Hd n lf rt sm) ∧ sa_By ou ∧ sa_SS bs us tu le sm st
def i_Rel (_ : Nat) (u : SX) (v : SY) : Prop := match u, v with
  | (f_length, f_size, f_low, f_outBits, f_blocks, f_source, f_check, a_left, a_right, a_bytes, a_used, a_turnedBit, a_blockLeft, a_blockRight, a_otherLeft, a_otherRight, a_row, a_residue, a_weight, a_out, a_starts), (a_lengths, a_samples, a_states) => sa_RL f_length a_left a_right a_bytes a_used a_turnedBit a_out a_lengths a_samples a_states
theorem i_up {k : Nat} {u : SX} {v : SY} (h : i_Rel k u v) : i_Rel (k + 5) u v := h
theorem i_vc0 : wpX_init (fun u => wpY_init (fun v => i_Rel 0 u v)) := by
  refine ⟨⟨0, by omega, rfl, rfl, fun i hi => absurd hi (by omega)⟩, fun j i hi => b_0 i, fun s hs => Or.inl ⟨rfl, rfl⟩⟩
theorem sa_SS_h {bs us tu le sm st le' sm' : Nat → Int32} (h : sa_SS bs us tu le sm st) (h1 : ∀ j, 192 ≤ j → sm' j = sm j) (h2 : ∀ s, le' (s + 1) = le (s + 1)) : sa_SS bs us tu le' sm' st := by
  intro s hs
  rw [h2 s]
  exact sa_Slot_c (fun _ _ => rfl) (fun i hi => ⟨(h1 _ (by omega)).symm, (h1 _ (by omega)).symm⟩) (h s hs)
theorem sa_Hd_put {n m i : Nat} {lf rt sm : Nat → Int32} {l r : Int32} (h : sa_Hd n lf rt sm) (hi : i < 96) (hm : m ≤ 96) (hj : ∀ j, j < m → j ≠ i → j < n) (hl : sa_sm l) (hr : sa_sm r) : sa_Hd m (upd lf i l) (upd rt i r) (upd (upd sm i l) (96 + i) r) := by
  intro j hjm
  by_cases e : j = i
  · subst e
    rw [pk_us, pk_us, pk_us, pk_un (by omega), pk_us]
    exact ⟨rfl, rfl, hl, hr⟩
  · rw [pk_un e, pk_un e, pk_un (by omega), pk_un e, pk_un (by omega), pk_un (by omega)]
    exact h j (hj j hjm e)
theorem sa_put_hi {sm : Nat → Int32} {i : Nat} {l r : Int32} (hi : i < 96) : ∀ j, 192 ≤ j → upd (upd sm i l) (96 + i) r j = sm j := fun j hj => by rw [pk_un (by omega), pk_un (by omega)]
theorem sa_m2048 : (-2048 : Int32).toInt = -2048 := by decide
theorem sa_2047 : (2047 : Int32).toInt = 2047 := by decide
theorem sa_smd (x : Int32) : sa_sm x ∨ ¬ sa_sm x := Classical.em _
theorem sa_isSample {post : Int32 → Prop} {x : Int32} (H1 : sa_sm x → post 1) (H0 : ¬ sa_sm x → post 0) : wpX_isSample post x := by
  unfold sa_sm at H1 H0
  refine br_c (fun h => H0 ?_) (fun h => br_c (fun h2 => H0 ?_) (fun h2 => H1 ?_))
  · rw [Int32.lt_iff_toInt_lt, sa_m2048] at h; omega
  · rw [Int32.lt_iff_toInt_lt, sa_2047] at h2; omega
  · rw [Int32.lt_iff_toInt_lt, sa_m2048] at h
    rw [Int32.lt_iff_toInt_lt, sa_2047] at h2
    omega
def sa_wr (x : Int32) : Int32 := ((x + 2048) &&& 4095) - 2048
theorem sa_wr_sm (x : Int32) : sa_sm (sa_wr x) := by
  obtain ⟨j, hj, e⟩ := pk_andE (x + 2048) (m := 4095) 12 (by decide)
  unfold sa_wr sa_sm
  rw [e, show (nI j - 2048).toInt = (j : Int) - 2048 from pk_sub_toInt (b := 2048) (by omega) (by omega)]
  omega
theorem sa_wr_id {x : Int32} (h : sa_sm x) : sa_wr x = x := by
  unfold sa_sm at h
  have e : x + 2048 = nI (x.toInt + 2048).toNat := by
    apply Int32.toInt_inj.mp
    rw [nI_toInt (by omega), Int32.toInt_add, show (2048 : Int32).toInt = 2048 from by decide, Int.bmod_eq_of_le (by omega) (by omega)]
    omega
  unfold sa_wr
  rw [e, pk_andN (by omega) 12 (by decide), Nat.mod_eq_of_lt (by omega), ← e]
  grind
section
variable {f_length f_size f_low f_outBits f_blocks f_source f_check : Int32} {a_left a_right a_bytes a_used a_turnedBit a_blockLeft a_blockRight a_otherLeft a_otherRight a_row a_residue a_weight a_out a_starts : Nat → Int32} {a_lengths a_samples a_states : Nat → Int32}
theorem sa_badSample {post : Int32 → Prop} {x : Int32} (H0 : sa_sm x → post 0) (H1 : ¬ sa_sm x → post 1) : wpY_badSample post (a_lengths, a_samples, a_states) x := by
  unfold sa_sm at H1 H0
  refine br_c (fun h => H1 ?_) (fun h => br_c (fun h2 => H0 ?_) (fun h2 => H1 ?_))
  · rw [Int32.lt_iff_toInt_lt, sa_m2048] at h; omega
  · rw [Int32.lt_iff_toInt_lt, sa_m2048] at h
    rw [Int32.le_iff_toInt_le, sa_2047] at h2
    omega
  · rw [Int32.le_iff_toInt_le, sa_2047] at h2; omega
theorem sa_yput {post : SY → Prop} {l r : Int32} (i : Nat) (hi : i < 96) (H : post (a_lengths, upd (upd a_samples i l) (96 + i) r, a_states)) : wpY_put post (a_lengths, a_samples, a_states) (nI i) l r := by
  have e : (96 : Int32) + nI i = nI (96 + i) := nI_add 96 i
  refine ⟨vp_in_nI (by omega) (by omega), nm_r (e' := upd a_samples i l) (by rw [nI_clamp (by omega)]) ⟨by rw [e]; exact vp_in_nI (by omega) (by omega), nm_r (by rw [e, nI_clamp (by omega)]) H⟩⟩
theorem sa_add {post : SX → Prop} {l r : Int32} (c : Nat) (hc : c < 96) (H : post (nI (c + 1), f_size, f_low, f_outBits, f_blocks, f_source, f_check, upd a_left c (sa_wr l), upd a_right c (sa_wr r), a_bytes, a_used, a_turnedBit, a_blockLeft, a_blockRight, a_otherLeft, a_otherRight, a_row, a_residue, a_weight, a_out, a_starts)) : wpX_add post (nI c, f_size, f_low, f_outBits, f_blocks, f_source, f_check, a_left, a_right, a_bytes, a_used, a_turnedBit, a_blockLeft, a_blockRight, a_otherLeft, a_otherRight, a_row, a_residue, a_weight, a_out, a_starts) l r := by
  refine ⟨vp_in_nI (by omega) (by omega), nm_r (e' := upd a_left c (sa_wr l)) (by rw [nI_clamp (by omega)]; rfl) ⟨vp_in_nI (by omega) (by omega), nm_r (e' := upd a_right c (sa_wr r)) (by rw [nI_clamp (by omega)]; rfl) (nm_r (nI_1 c) H)⟩⟩
theorem sa_isMoment {post : Int32 → Prop} {x : Int32} (n : Nat) (hn : n ≤ 96) (H1 : ∀ i, i < n → x = nI i → post 1) (H0 : (x < 0 ∨ nI n ≤ x) → post 0) : wpX_isMoment post (nI n, f_size, f_low, f_outBits, f_blocks, f_source, f_check, a_left, a_right, a_bytes, a_used, a_turnedBit, a_blockLeft, a_blockRight, a_otherLeft, a_otherRight, a_row, a_residue, a_weight, a_out, a_starts) x := by
  refine br_c (fun h => H0 (Or.inl h)) (fun h => br_c (fun h2 => H0 (Or.inr h2)) (fun h2 => ?_))
  obtain ⟨j, hj, rfl⟩ := nI_of h
  rw [nI_leI (by omega) hj] at h2
  exact H1 j (by omega) rfl
theorem sa_noMoment {post : Int32 → Prop} {x y : Int32} (q n : Nat) (hq : q < 5) (hy : y = nI q) (hn : n ≤ 96) (hl : a_lengths q = nI n) (H0 : ∀ i, i < n → x = nI i → post 0) (H1 : (x < 0 ∨ nI n ≤ x) → post 1) : wpY_noMoment post (a_lengths, a_samples, a_states) y x := by
  subst hy
  refine br_c (fun h => H1 (Or.inl h)) (fun h => ⟨vp_in_nI (by omega) (by omega), ?_⟩)
  rw [nI_clamp (by omega), hl]
  obtain ⟨j, hj, rfl⟩ := nI_of h
  refine pk_lt j n (fun h2 => H0 j h2 rfl) (fun h2 => H1 (Or.inr (nI_le h2 hj)))
end
theorem sa_mom (x : Int32) {n : Nat} (hn : n ≤ 96) : (x < 0 ∨ nI n ≤ x) ∨ ∃ i, i < n ∧ x = nI i := by
  rcases pk_ix x (n := n) (by omega) with h | h | h
  · exact Or.inl (Or.inl h)
  · exact Or.inl (Or.inr h)
  · exact Or.inr h
theorem sa_mom_n {x : Int32} {n i : Nat} (hn : n ≤ 96) (h : x < 0 ∨ nI n ≤ x) (hi : i < n) (e : x = nI i) : False := by
  subst e
  rcases h with h | h
  · exact nI_pos (by omega) h
  · rw [nI_leI (by omega) (by omega)] at h; omega
end
section
/-! the sound at hand: clear, append, get, set, length, cut, digest -/
theorem i_vc_clear {k : Nat} {u : SX} {v : SY} (I : i_Rel k u v) (hk : k + 5 ≤ 2560) : wpX_clear (fun r u' => wpY_clear (fun r' v' => r' = r ∧ i_Rel (k + 5) u' v') v) u := by
  obtain ⟨f_length, f_size, f_low, f_outBits, f_blocks, f_source, f_check, a_left, a_right, a_bytes, a_used, a_turnedBit, a_blockLeft, a_blockRight, a_otherLeft, a_otherRight, a_row, a_residue, a_weight, a_out, a_starts⟩ := u
  obtain ⟨a_lengths, a_samples, a_states⟩ := v
  obtain ⟨⟨n, hn, rfl, hl, hH⟩, hby, hS⟩ := I
  refine nm_r (e' := nI n) hl (nm_e ⟨rfl, ⟨0, by omega, rfl, pk_us, fun i hi => absurd hi (by omega)⟩, hby, sa_SS_h hS (fun _ _ => rfl) (fun s => pk_un (Nat.succ_ne_zero s))⟩)
theorem i_vc_length {k : Nat} {u : SX} {v : SY} (I : i_Rel k u v) (hk : k + 5 ≤ 2560) : wpX_length (fun r => wpY_length (fun r' => r' = r ∧ i_Rel (k + 5) u v) v) u := by
  obtain ⟨f_length, f_size, f_low, f_outBits, f_blocks, f_source, f_check, a_left, a_right, a_bytes, a_used, a_turnedBit, a_blockLeft, a_blockRight, a_otherLeft, a_otherRight, a_row, a_residue, a_weight, a_out, a_starts⟩ := u
  obtain ⟨a_lengths, a_samples, a_states⟩ := v
  have I2 := I
  obtain ⟨⟨n, hn, rfl, hl, hH⟩, hby, hS⟩ := I2
  exact ⟨hl, I⟩
theorem i_vc_append {k : Nat} {u : SX} {v : SY} (I : i_Rel k u v) (hk : k + 5 ≤ 2560) (v1 : Int32) (v2 : Int32) : wpX_append (fun r u' => wpY_append (fun r' v' => r' = r ∧ i_Rel (k + 5) u' v') v v1 v2) u v1 v2 := by
  obtain ⟨f_length, f_size, f_low, f_outBits, f_blocks, f_source, f_check, a_left, a_right, a_bytes, a_used, a_turnedBit, a_blockLeft, a_blockRight, a_otherLeft, a_otherRight, a_row, a_residue, a_weight, a_out, a_starts⟩ := u
  obtain ⟨a_lengths, a_samples, a_states⟩ := v
  have I2 := I
  obtain ⟨⟨n, hn, rfl, hl, hH⟩, hby, hS⟩ := I2
  unfold wpX_append wpY_append
  dsimp only
  refine sa_isSample (fun h1 => br_f (by decide) (sa_isSample (fun h2 => br_f (by decide) ?_) (fun h2 => br_t rfl ?_))) (fun h1 => br_t rfl ?_)
  · refine pk_lt n 96 (fun h => ?_) (fun h => ?_)
    · refine ⟨vp_in_nI (by omega) (by omega), nm_r (e' := upd a_left n v1) (by rw [nI_clamp (by omega)]) ⟨vp_in_nI (by omega) (by omega), nm_r (e' := upd a_right n v2) (by rw [nI_clamp (by omega)]) (nm_r (nI_1 n) ?_)⟩⟩
      refine sa_badSample (fun _ => br_t rfl (sa_badSample (fun _ => br_t rfl ?_) (fun z => absurd h2 z))) (fun z => absurd h1 z)
      rw [hl]
      refine br_f (fun z => absurd ((nI_eq (b := 96) (by omega) (by omega)).mp z) (by omega)) (sa_yput n h ?_)
      dsimp only
      rw [hl, nI_1]
      refine nm_e ⟨pk_us, ⟨n + 1, by omega, rfl, pk_us, sa_Hd_put hH h (by omega) (fun j hj e => by omega) h1 h2⟩, hby, sa_SS_h hS (sa_put_hi h) (fun s => pk_un (Nat.succ_ne_zero s))⟩
    · obtain rfl : n = 96 := by omega
      refine sa_badSample (fun _ => br_t rfl (sa_badSample (fun _ => br_t rfl ?_) (fun z => absurd h2 z))) (fun z => absurd h1 z)
      exact br_t hl ⟨rfl, I⟩
  · exact sa_badSample (fun _ => br_t rfl (sa_badSample (fun z => absurd z h2) (fun z => br_f (by decide) ⟨rfl, I⟩))) (fun z => br_f (by decide) ⟨rfl, I⟩)
  · exact sa_badSample (fun z => absurd z h1) (fun z => br_f (by decide) ⟨rfl, I⟩)
theorem sa_isChannel {post : Int32 → Prop} {x : Int32} (H1 : ∀ c, c < 2 → x = nI c → post 1) (H0 : (x < 0 ∨ nI 2 ≤ x) → post 0) : wpX_isChannel post x := by
  refine br_c (fun h => H1 0 (by omega) h) (fun h => br_c (fun h2 => H1 1 (by omega) h2) (fun h2 => H0 ?_))
  rcases pk_ix x (n := 2) (by omega) with z | z | ⟨j, hj, rfl⟩
  · exact Or.inl z
  · exact Or.inr z
  · obtain rfl | rfl : j = 0 ∨ j = 1 := by omega
    · exact absurd rfl h
    · exact absurd rfl h2
theorem sa_chan_n {x : Int32} {c : Nat} (h : x < 0 ∨ nI 2 ≤ x) (hc : c < 2) (e : x = nI c) : False := by
  subst e
  rcases h with h | h
  · exact nI_pos (by omega) h
  · rw [nI_leI (by omega) (by omega)] at h; omega
section
variable {f_length f_size f_low f_outBits f_blocks f_source f_check : Int32} {a_left a_right a_bytes a_used a_turnedBit a_blockLeft a_blockRight a_otherLeft a_otherRight a_row a_residue a_weight a_out a_starts : Nat → Int32} {a_lengths a_samples a_states : Nat → Int32}
theorem sa_badChannel {post : Int32 → Prop} {x : Int32} (H0 : ∀ c, c < 2 → x = nI c → post 0) (H1 : (x < 0 ∨ nI 2 ≤ x) → post 1) : wpY_badChannel post (a_lengths, a_samples, a_states) x := by
  refine br_c (fun h => H1 (Or.inl h)) (fun h => ?_)
  obtain ⟨j, hj, rfl⟩ := nI_of h
  exact pk_le j 1 (fun h2 => H0 j (by omega) rfl) (fun h2 => H1 (Or.inr (nI_le (by omega) hj)))
end
theorem i_vc_get {k : Nat} {u : SX} {v : SY} (I : i_Rel k u v) (hk : k + 5 ≤ 2560) (v1 : Int32) (v2 : Int32) : wpX_get (fun r => wpY_get (fun r' => r' = r ∧ i_Rel (k + 5) u v) v v1 v2) u v1 v2 := by
  obtain ⟨f_length, f_size, f_low, f_outBits, f_blocks, f_source, f_check, a_left, a_right, a_bytes, a_used, a_turnedBit, a_blockLeft, a_blockRight, a_otherLeft, a_otherRight, a_row, a_residue, a_weight, a_out, a_starts⟩ := u
  obtain ⟨a_lengths, a_samples, a_states⟩ := v
  have I2 := I
  obtain ⟨⟨n, hn, rfl, hl, hH⟩, hby, hS⟩ := I2
  unfold wpX_get
  dsimp only
  refine sa_isChannel (fun c hc e => br_f (by decide) (sa_isMoment n hn (fun i hi ei => br_f (by decide) ?_) (fun z => br_t rfl ?_))) (fun z => br_t rfl ?_)
  · subst e ei
    have hY : ∀ x, a_samples (96 * c + i) = x → wpY_get (fun r' => r' = x ∧ i_Rel (k + 5) (nI n, f_size, f_low, f_outBits, f_blocks, f_source, f_check, a_left, a_right, a_bytes, a_used, a_turnedBit, a_blockLeft, a_blockRight, a_otherLeft, a_otherRight, a_row, a_residue, a_weight, a_out, a_starts) (a_lengths, a_samples, a_states)) (a_lengths, a_samples, a_states) (nI c) (nI i) := by
      intro x hx
      unfold wpY_get
      dsimp only
      refine sa_badChannel (fun _ _ _ => br_t rfl (sa_noMoment 0 n (by omega) rfl hn hl (fun _ _ _ => br_t rfl ?_) (fun z => (sa_mom_n hn z hi rfl).elim))) (fun z => (sa_chan_n z hc rfl).elim)
      have e : (96 : Int32) * nI c + nI i = nI (96 * c + i) := by rw [show (96 : Int32) * nI c = nI (96 * c) from pk_mul 96 c, nI_add]
      rw [e, nI_clamp (by omega)]
      exact ⟨vp_in_nI (by omega) (by omega), hx, I⟩
    refine pk_eq c 0 (fun e0 => ⟨vp_in_nI (by omega) (by omega), ?_⟩) (fun e0 => ⟨vp_in_nI (by omega) (by omega), ?_⟩)
    · refine hY _ ?_
      subst e0
      rw [nI_clamp (by omega), Nat.mul_zero, Nat.zero_add]
      exact (hH i hi).1.symm
    · refine hY _ ?_
      obtain rfl : c = 1 := by omega
      rw [nI_clamp (by omega)]
      exact (hH i hi).2.1.symm
  · unfold wpY_get
    dsimp only
    exact sa_badChannel (fun _ _ _ => br_t rfl (sa_noMoment 0 n (by omega) rfl hn hl (fun i hi ei => (sa_mom_n hn z hi ei).elim) (fun _ => br_f (by decide) ⟨rfl, I⟩))) (fun z => (sa_chan_n z hc e).elim)
  · unfold wpY_get
    dsimp only
    exact sa_badChannel (fun c hc e => (sa_chan_n z hc e).elim) (fun _ => br_f (by decide) ⟨rfl, I⟩)
theorem i_vc_set {k : Nat} {u : SX} {v : SY} (I : i_Rel k u v) (hk : k + 5 ≤ 2560) (v1 : Int32) (v2 : Int32) (v3 : Int32) : wpX_set (fun r u' => wpY_set (fun r' v' => r' = r ∧ i_Rel (k + 5) u' v') v v1 v2 v3) u v1 v2 v3 := by
  obtain ⟨f_length, f_size, f_low, f_outBits, f_blocks, f_source, f_check, a_left, a_right, a_bytes, a_used, a_turnedBit, a_blockLeft, a_blockRight, a_otherLeft, a_otherRight, a_row, a_residue, a_weight, a_out, a_starts⟩ := u
  obtain ⟨a_lengths, a_samples, a_states⟩ := v
  have I2 := I
  obtain ⟨⟨n, hn, rfl, hl, hH⟩, hby, hS⟩ := I2
  unfold wpX_set wpY_set
  dsimp only
  refine sa_isMoment n hn (fun i hi ei => br_f (by decide) (sa_isSample (fun h2 => br_f (by decide) (sa_isSample (fun h3 => br_f (by decide) ?_) (fun h3 => br_t rfl ?_))) (fun h2 => br_t rfl ?_))) (fun z => br_t rfl ?_)
  · subst ei
    refine ⟨vp_in_nI (by omega) (by omega), nm_r (e' := upd a_left i v2) (by rw [nI_clamp (by omega)]) ⟨vp_in_nI (by omega) (by omega), nm_r (e' := upd a_right i v3) (by rw [nI_clamp (by omega)]) ?_⟩⟩
    refine sa_noMoment 0 n (by omega) rfl hn hl (fun _ _ _ => br_t rfl (sa_badSample (fun _ => br_t rfl (sa_badSample (fun _ => br_t rfl ?_) (fun z => absurd h3 z))) (fun z => absurd h2 z))) (fun z => (sa_mom_n hn z hi rfl).elim)
    refine sa_yput i (by omega) ?_
    exact ⟨rfl, ⟨n, hn, rfl, hl, sa_Hd_put hH (by omega) hn (fun j hj _ => hj) h2 h3⟩, hby, sa_SS_h hS (sa_put_hi (by omega)) (fun s => rfl)⟩
  · exact sa_noMoment 0 n (by omega) rfl hn hl (fun _ _ _ => br_t rfl (sa_badSample (fun _ => br_t rfl (sa_badSample (fun z => absurd z h3) (fun _ => br_f (by decide) ⟨rfl, I⟩))) (fun _ => br_f (by decide) ⟨rfl, I⟩))) (fun z => br_f (by decide) ⟨rfl, I⟩)
  · exact sa_noMoment 0 n (by omega) rfl hn hl (fun _ _ _ => br_t rfl (sa_badSample (fun z => absurd z h2) (fun _ => br_f (by decide) ⟨rfl, I⟩))) (fun z => br_f (by decide) ⟨rfl, I⟩)
  · exact sa_noMoment 0 n (by omega) rfl hn hl (fun i hi ei => (sa_mom_n hn z hi ei).elim) (fun _ => br_f (by decide) ⟨rfl, I⟩)
/-! cut -/
section
variable {f_length f_size f_low f_outBits f_blocks f_source f_check : Int32} {a_left a_right a_bytes a_used a_turnedBit a_blockLeft a_blockRight a_otherLeft a_otherRight a_row a_residue a_weight a_out a_starts : Nat → Int32} {a_lengths a_samples a_states : Nat → Int32}
/-- the moments f .. t - 1 become 0 .. : what the copying loop has made after i moments -/
def sa_Cu (f i : Nat) (a b : Nat → Int32) : Prop := (∀ j, j < i → b j = a (f + j)) ∧ (∀ j, f + i ≤ j → b j = a j)
theorem sa_Cu_s {f i : Nat} {a b : Nat → Int32} (h : sa_Cu f i a b) : sa_Cu f (i + 1) a (upd b i (b (f + i))) := by
  refine ⟨fun j hj => ?_, fun j hj => ?_⟩
  · by_cases e : j = i
    · rw [e, pk_us]; exact h.2 _ (by omega)
    · rw [pk_un e]; exact h.1 j (by omega)
  · rw [pk_un (by omega)]; exact h.2 j (by omega)
theorem sa_cut23 {post : Int32 → SX → Prop} (f t : Nat) (hft : f ≤ t) (ht : t ≤ 96)
    (H : ∀ lf rt, sa_Cu f (t - f) a_left lf → sa_Cu f (t - f) a_right rt → post (nI (t - f)) (nI (t - f), f_size, f_low, f_outBits, f_blocks, f_source, f_check, lf, rt, a_bytes, a_used, a_turnedBit, a_blockLeft, a_blockRight, a_otherLeft, a_otherRight, a_row, a_residue, a_weight, a_out, a_starts)) :
    ∀ (d i m : Nat) (lf rt : Nat → Int32), i + d = t - f → d < m → sa_Cu f i a_left lf → sa_Cu f i a_right rt → wX_cut_23 post (nI f) (nI t) f_length f_size f_low f_outBits f_blocks f_source f_check m (nI (f + i)) lf rt a_bytes a_used a_turnedBit a_blockLeft a_blockRight a_otherLeft a_otherRight a_row a_residue a_weight a_out a_starts := by
  intro d
  induction d with
  | zero =>
    intro i m lf rt hi hm hL hR
    obtain ⟨m, rfl⟩ : ∃ q, m = q + 1 := ⟨m - 1, by omega⟩
    obtain rfl : i = t - f := by omega
    exact br_t (nI_le (by omega) (by omega)) (nm_r (pk_sub hft) (H lf rt hL hR))
  | succ d ih =>
    intro i m lf rt hi hm hL hR
    obtain ⟨m, rfl⟩ : ∃ q, m = q + 1 := ⟨m - 1, by omega⟩
    have e : nI (f + i) - nI f = nI i := by rw [pk_sub (by omega), Nat.add_sub_cancel_left]
    refine br_f (nI_ge (by omega) (by omega)) ?_
    rw [e, nI_clamp (by omega), nI_clamp (by omega)]
    refine ⟨vp_in_nI (by omega) (by omega), vp_in_nI (by omega) (by omega), nm_e ⟨vp_in_nI (by omega) (by omega), vp_in_nI (by omega) (by omega), nm_e (nm_r (nI_1 _) ?_)⟩⟩
    exact ih (i + 1) m _ _ (by omega) (by omega) (sa_Cu_s hL) (sa_Cu_s hR)
/-- the reference's keep -/
theorem sa_keep2 {post : Int32 → SY → Prop} (f t : Nat) (hft : f ≤ t) (ht : t ≤ 96)
    (H : ∀ sm, (∀ j, j < t - f → sm j = a_samples (f + j) ∧ sm (96 + j) = a_samples (96 + (f + j))) → (∀ j, 192 ≤ j → sm j = a_samples j) → post (nI (t - f)) (upd a_lengths 0 (nI (t - f)), sm, a_states)) :
    ∀ (d i m : Nat) (sm : Nat → Int32), i + d = t - f → d < m → (∀ j, j < i → sm j = a_samples (f + j) ∧ sm (96 + j) = a_samples (96 + (f + j))) → (∀ j, f + i ≤ j → j < 96 → sm j = a_samples j ∧ sm (96 + j) = a_samples (96 + j)) → (∀ j, 192 ≤ j → sm j = a_samples j) →
    wY_keep_2 post (nI f) (nI t) m (nI (f + i)) a_lengths sm a_states := by
  intro d
  induction d with
  | zero =>
    intro i m sm hi hm h1 h2 h3
    obtain ⟨m, rfl⟩ : ∃ q, m = q + 1 := ⟨m - 1, by omega⟩
    obtain rfl : i = t - f := by omega
    refine br_t (nI_le (by omega) (by omega)) ?_
    rw [pk_sub hft]
    refine nm_e ?_
    rw [pk_us]
    exact H sm h1 h3
  | succ d ih =>
    intro i m sm hi hm h1 h2 h3
    obtain ⟨m, rfl⟩ : ∃ q, m = q + 1 := ⟨m - 1, by omega⟩
    have e : nI (f + i) - nI f = nI i := by rw [pk_sub (by omega), Nat.add_sub_cancel_left]
    have e96 : (96 : Int32) + nI (f + i) = nI (96 + (f + i)) := nI_add 96 _
    refine br_f (nI_ge (by omega) (by omega)) ?_
    rw [e, e96, nI_clamp (by omega), nI_clamp (by omega)]
    refine ⟨vp_in_nI (by omega) (by omega), vp_in_nI (by omega) (by omega), sa_yput i (by omega) (nm_r (nI_1 _) ?_)⟩
    refine ih (i + 1) m _ (by omega) (by omega) (fun j hj => ?_) (fun j hj hj2 => ?_) (fun j hj => ?_)
    · by_cases ej : j = i
      · subst ej
        rw [pk_un (by omega), pk_us, pk_us]
        exact h2 _ (by omega) (by omega)
      · rw [pk_un (by omega), pk_un ej, pk_un (by omega), pk_un (by omega)]
        exact h1 j (by omega)
    · rw [pk_un (by omega), pk_un (by omega), pk_un (by omega), pk_un (by omega)]
      exact h2 j (by omega) hj2
    · rw [pk_un (by omega), pk_un (by omega)]
      exact h3 j hj
theorem sa_keep {post : Int32 → SY → Prop} (f t : Nat) (hft : f ≤ t) (ht : t ≤ 96)
    (H : ∀ sm, (∀ j, j < t - f → sm j = a_samples (f + j) ∧ sm (96 + j) = a_samples (96 + (f + j))) → (∀ j, 192 ≤ j → sm j = a_samples j) → post (nI (t - f)) (upd a_lengths 0 (nI (t - f)), sm, a_states)) :
    wpY_keep post (a_lengths, a_samples, a_states) (nI f) (nI t) :=
  ⟨t - f + 1, sa_keep2 f t hft ht H (t - f) 0 _ a_samples (by omega) (by omega) (fun j hj => absurd hj (by omega)) (fun _ _ _ => ⟨rfl, rfl⟩) (fun _ _ => rfl)⟩
theorem sa_badSpan {post : Int32 → Prop} {x y z : Int32} (q n : Nat) (hq : q < 5) (hz : z = nI q) (hn : n ≤ 96) (hl : a_lengths q = nI n)
    (H0 : ∀ f t, f ≤ t → t ≤ n → x = nI f → y = nI t → post 0) (H1 : (x < 0 ∨ nI n < y ∨ ¬ x ≤ y) → post 1) : wpY_badSpan post (a_lengths, a_samples, a_states) z x y := by
  subst hz
  refine br_c (fun h => H1 (Or.inl h)) (fun h => ⟨vp_in_nI (by omega) (by omega), ?_⟩)
  rw [nI_clamp (by omega), hl]
  refine br_c (fun h2 => H1 (Or.inr (Or.inl h2))) (fun h2 => br_c (fun h3 => ?_) (fun h3 => H1 (Or.inr (Or.inr h3))))
  obtain ⟨f, hf, rfl⟩ := nI_of h
  obtain ⟨t, ht, rfl⟩ := nI_of (x := y) (fun z => by
    rw [Int32.lt_iff_toInt_lt] at z
    rw [Int32.le_iff_toInt_le, nI_toInt hf] at h3
    have : (0 : Int32).toInt = 0 := by decide
    omega)
  rw [nI_ltI (by omega) ht] at h2
  rw [nI_leI hf ht] at h3
  exact H0 f t h3 (by omega) rfl rfl
theorem sa_span (x y : Int32) {n : Nat} (hn : n ≤ 96) : (x < 0 ∨ nI n < y ∨ ¬ x ≤ y) ∨ ∃ f t, f ≤ t ∧ t ≤ n ∧ x = nI f ∧ y = nI t := by
  by_cases h : x < 0
  · exact Or.inl (Or.inl h)
  · by_cases h2 : nI n < y
    · exact Or.inl (Or.inr (Or.inl h2))
    · by_cases h3 : x ≤ y
      · refine Or.inr ?_
        obtain ⟨f, hf, rfl⟩ := nI_of h
        obtain ⟨t, ht, rfl⟩ := nI_of (x := y) (fun z => by
          rw [Int32.lt_iff_toInt_lt] at z
          rw [Int32.le_iff_toInt_le, nI_toInt hf] at h3
          have : (0 : Int32).toInt = 0 := by decide
          omega)
        rw [nI_ltI (by omega) ht] at h2
        rw [nI_leI hf ht] at h3
        exact ⟨f, t, h3, by omega, rfl, rfl⟩
      · exact Or.inl (Or.inr (Or.inr h3))
theorem sa_span_n {n f t : Nat} (hn : n ≤ 96) (h : nI f < 0 ∨ nI n < nI t ∨ ¬ nI f ≤ nI t) (h1 : f ≤ t) (h2 : t ≤ n) : False := by
  rcases h with h | h | h
  · exact nI_pos (by omega) h
  · rw [nI_ltI (by omega) (by omega)] at h; omega
  · rw [nI_leI (by omega) (by omega)] at h; omega
end
theorem i_vc_cut {k : Nat} {u : SX} {v : SY} (I : i_Rel k u v) (hk : k + 5 ≤ 2560) (v1 : Int32) (v2 : Int32) : wpX_cut (fun r u' => wpY_cut (fun r' v' => r' = r ∧ i_Rel (k + 5) u' v') v v1 v2) u v1 v2 := by
  obtain ⟨f_length, f_size, f_low, f_outBits, f_blocks, f_source, f_check, a_left, a_right, a_bytes, a_used, a_turnedBit, a_blockLeft, a_blockRight, a_otherLeft, a_otherRight, a_row, a_residue, a_weight, a_out, a_starts⟩ := u
  obtain ⟨a_lengths, a_samples, a_states⟩ := v
  have I2 := I
  obtain ⟨⟨n, hn, rfl, hl, hH⟩, hby, hS⟩ := I2
  rcases sa_span v1 v2 hn with h | ⟨f, t, h1, h2, rfl, rfl⟩
  · have hY : wpY_cut (fun r' v' => r' = -5001 ∧ i_Rel (k + 5) (nI n, f_size, f_low, f_outBits, f_blocks, f_source, f_check, a_left, a_right, a_bytes, a_used, a_turnedBit, a_blockLeft, a_blockRight, a_otherLeft, a_otherRight, a_row, a_residue, a_weight, a_out, a_starts) v') (a_lengths, a_samples, a_states) v1 v2 := by
      unfold wpY_cut
      dsimp only
      exact sa_badSpan 0 n (by omega) rfl hn hl (fun f t h1 h2 e1 e2 => by subst e1 e2; exact (sa_span_n hn h h1 h2).elim) (fun _ => br_f (by decide) ⟨rfl, I⟩)
    refine br_c (fun _ => hY) (fun c1 => br_c (fun _ => hY) (fun c2 => br_c (fun c3 => ?_) (fun _ => hY)))
    rcases h with h | h | h
    · exact absurd h c1
    · exact absurd h c2
    · exact absurd c3 h
  · refine br_f (nI_pos (by omega)) (br_f (nI_nlt h2 (by omega)) (br_t (nI_le h1 (by omega)) ⟨t - f + 1, ?_⟩))
    refine sa_cut23 f t h1 (by omega) (fun lf rt hL hR => ?_) (t - f) 0 _ a_left a_right (by omega) (by omega) ⟨fun j hj => absurd hj (by omega), fun _ _ => rfl⟩ ⟨fun j hj => absurd hj (by omega), fun _ _ => rfl⟩
    unfold wpY_cut
    dsimp only
    refine sa_badSpan 0 n (by omega) rfl hn hl (fun _ _ _ _ _ _ => br_t rfl ?_) (fun z => (sa_span_n hn z h1 h2).elim)
    refine sa_keep f t h1 (by omega) (fun sm k1 k2 => ?_)
    dsimp only
    refine ⟨rfl, ⟨t - f, by omega, rfl, pk_us, fun j hj => ?_⟩, hby, sa_SS_h hS k2 (fun s => pk_un (Nat.succ_ne_zero s))⟩
    have hh := hH (f + j) (by omega)
    rw [hL.1 j hj, hR.1 j hj, (k1 j hj).1, (k1 j hj).2]
    exact hh
/-! digest -/
theorem i_vc_digest {k : Nat} {u : SX} {v : SY} (I : i_Rel k u v) (hk : k + 5 ≤ 2560) : wpX_digest (fun r => wpY_digest (fun r' => r' = r ∧ i_Rel (k + 5) u v) v) u := by
  obtain ⟨f_length, f_size, f_low, f_outBits, f_blocks, f_source, f_check, a_left, a_right, a_bytes, a_used, a_turnedBit, a_blockLeft, a_blockRight, a_otherLeft, a_otherRight, a_row, a_residue, a_weight, a_out, a_starts⟩ := u
  obtain ⟨a_lengths, a_samples, a_states⟩ := v
  have I2 := I
  obtain ⟨⟨n, hn, rfl, hl, hH⟩, hby, hS⟩ := I2
  have L : ∀ (d i : Nat) (x : Int32), i + d = n → ∃ r : Int32, (∀ post : Int32 → Prop, post r → wX_digest_4 post (nI n) f_size f_low f_outBits f_blocks f_source f_check a_left a_right a_bytes a_used a_turnedBit a_blockLeft a_blockRight a_otherLeft a_otherRight a_row a_residue a_weight a_out a_starts (d + 1) x (nI i)) ∧ (∀ post : Int32 → Prop, post r → wY_digest_4 post a_lengths a_samples a_states (d + 1) x (nI i)) := by
    intro d
    induction d with
    | zero =>
      intro i x hi
      obtain rfl : i = n := by omega
      exact ⟨x, fun _ h => br_t (Int32.le_refl _) h, fun _ h => br_t (by rw [hl]; exact Int32.le_refl _) h⟩
    | succ d ih =>
      intro i x hi
      obtain ⟨r, hX, hY⟩ := ih (i + 1) (x + (nI i + 1) * (a_left i + 3 * a_right i)) (by omega)
      have e96 : (96 : Int32) + nI i = nI (96 + i) := nI_add 96 i
      refine ⟨r, fun post h => br_f (nI_ge (by omega) (by omega)) ⟨vp_in_nI (by omega) (by omega), vp_in_nI (by omega) (by omega), ?_⟩, fun post h => br_f (by rw [hl]; exact nI_ge (by omega) (by omega)) ⟨vp_in_nI (by omega) (by omega), by rw [e96]; exact vp_in_nI (by omega) (by omega), ?_⟩⟩
      · rw [nI_clamp (by omega)]
        exact nm_e (nm_r (nI_1 i) (hX post h))
      · rw [e96, nI_clamp (by omega), nI_clamp (by omega), ← (hH i (by omega)).1, ← (hH i (by omega)).2.1]
        exact nm_e (nm_r (nI_1 i) (hY post h))
  obtain ⟨r, hX, hY⟩ := L n 0 0 (by omega)
  exact ⟨n + 1, hX _ ⟨n + 1, hY _ ⟨rfl, I⟩⟩⟩
end
section
/-! tone and change -/
section
variable {f_length f_size f_low f_outBits f_blocks f_source f_check : Int32} {a_left a_right a_bytes a_used a_turnedBit a_blockLeft a_blockRight a_otherLeft a_otherRight a_row a_residue a_weight a_out a_starts : Nat → Int32} {a_lengths a_samples a_states : Nat → Int32}
theorem sa_ytone200 {post : Int32 → SY → Prop} {J : Int32 → Int32 → (Nat → Int32) → (Nat → Int32) → (Nat → Int32) → Prop} {x1 x2 x3 x5 x7 x8 l r : Int32} (i c : Nat) (hc : c < 96) (hl : a_lengths 0 = nI c)
    (H : J x5 (nI (i + 1)) (upd a_lengths 0 (nI (c + 1))) (upd (upd a_samples c (sa_wr l)) (96 + c) (sa_wr r)) a_states) : wY_tone_200 post J x1 x2 x3 x5 x7 x8 (nI i) (nI c) l r a_lengths a_samples a_states := by
  unfold wY_tone_200 wpY_wrapped
  dsimp only
  refine sa_yput (l := sa_wr l) (r := sa_wr r) c hc (nm_r (e' := upd a_lengths 0 (nI (c + 1))) (by dsimp only; rw [hl, nI_1]) (nm_r (nI_1 i) H))
theorem sa_tone_s (kd N bk i c : Nat) (a b s : Int32) (hkd : kd < 4) (hbk : bk ≤ 16) (hb1 : 1 ≤ bk) (hN : N < 2 ^ 31) (hi : i < N) (hc : c < 96) (lf rt sm le : Nat → Int32) (hH : sa_Hd c lf rt sm) (hl : le 0 = nI c) :
    ∃ l r : Int32, (∀ (post : Int32 → SX → Prop) (m : Nat), wX_tone_58 post (nI kd) a b (nI N) (nI bk) m (s * 1103515245 + 12345) (nI (i + 1)) (nI (c + 1)) f_size f_low f_outBits f_blocks f_source f_check (upd lf c (sa_wr l)) (upd rt c (sa_wr r)) a_bytes a_used a_turnedBit a_blockLeft a_blockRight a_otherLeft a_otherRight a_row a_residue a_weight a_out a_starts →
        wX_tone_58 post (nI kd) a b (nI N) (nI bk) (m + 1) s (nI i) (nI c) f_size f_low f_outBits f_blocks f_source f_check lf rt a_bytes a_used a_turnedBit a_blockLeft a_blockRight a_otherLeft a_otherRight a_row a_residue a_weight a_out a_starts) ∧
      (∀ (post : Int32 → SY → Prop) (m : Nat), wY_tone_59 post (nI kd) a b (nI N) (nI bk) m (s * 1103515245 + 12345) (nI (i + 1)) (upd le 0 (nI (c + 1))) (upd (upd sm c (sa_wr l)) (96 + c) (sa_wr r)) a_states →
        wY_tone_59 post (nI kd) a b (nI N) (nI bk) (m + 1) s (nI i) le sm a_states) := by
  obtain rfl | rfl | rfl | rfl : kd = 0 ∨ kd = 1 ∨ kd = 2 ∨ kd = 3 := by omega
  · refine ⟨a + b * nI i, a - b * nI i, fun post m H => ?_, fun post m H => ?_⟩
    · refine br_f (nI_ge hi hN) (nm_e (nm_e (br_t rfl (sa_add c hc (nm_r (nI_1 i) H)))))
    · refine br_f (nI_ge hi hN) (nm_r hl (nm_e (nm_e (nm_e (br_f (by decide) (br_f (by decide) (br_f (by decide) (sa_ytone200 i c hc hl H))))))))
  · refine ⟨((s * 1103515245 + 12345).toUInt32 >>> ((16 : Int32).toUInt32 &&& Int32.toUInt32 31)).toInt32, ((s * 1103515245 + 12345).toUInt32 >>> ((16 : Int32).toUInt32 &&& Int32.toUInt32 31)).toInt32 + b, fun post m H => ?_, fun post m H => ?_⟩
    · refine br_f (nI_ge hi hN) (nm_e (nm_e (br_f (by decide) (br_t rfl (sa_add c hc (nm_r (nI_1 i) H))))))
    · refine br_f (nI_ge hi hN) (nm_r hl (nm_e (nm_e (nm_e (br_t rfl (nm_e (nm_e (br_f (by decide) (br_f (by decide) (sa_ytone200 i c hc hl H))))))))))
  · refine ⟨((a * nI i) * nI i) / 16 + b, ((a * nI i) * nI i) / 16 + b, fun post m H => ?_, fun post m H => ?_⟩
    · refine br_f (nI_ge hi hN) (nm_e (nm_e (br_f (by decide) (br_f (by decide) (br_t rfl ⟨by decide, by decide, sa_add c hc (nm_r (nI_1 i) H)⟩)))))
    · refine br_f (nI_ge hi hN) (nm_r hl (nm_e (nm_e (nm_e (br_f (by decide) (br_t rfl ⟨by decide, nm_e (br_f (by decide) (sa_ytone200 i c hc hl H))⟩))))))
  · by_cases hb : bk ≤ c
    · have hh := hH (c - bk)
      have e1 : nI c - nI bk = nI (c - bk) := pk_sub hb
      have e2 : (96 : Int32) + nI c - nI bk = nI (96 + (c - bk)) := by
        rw [show (96 : Int32) + nI c = nI (96 + c) from nI_add 96 c, pk_sub (by omega)]
        exact congrArg nI (by omega)
      refine ⟨lf (c - bk) + b, rt (c - bk) + b, fun post m H => ?_, fun post m H => ?_⟩
      · refine br_f (nI_ge hi hN) (nm_e (nm_r e1 (br_f (by decide) (br_f (by decide) (br_f (by decide) (br_t (nI_pos' (by omega)) ⟨vp_in_nI (by omega) (by omega), ?_⟩))))))
        refine br_t (nI_pos' (by omega)) ⟨vp_in_nI (by omega) (by omega), ?_⟩
        rw [nI_clamp (by omega)]
        exact sa_add c hc (nm_r (nI_1 i) H)
      · have hh' := hh (by omega)
        refine br_f (nI_ge hi hN) (nm_r hl (nm_e (nm_e (nm_e (br_f (by decide) (br_f (by decide) (br_t rfl (br_t (nI_le hb (by omega)) ?_))))))))
        rw [e1, nI_clamp (by omega), ← hh'.1]
        refine ⟨vp_in_nI (by omega) (by omega), br_t (nI_le hb (by omega)) ?_⟩
        rw [e2, nI_clamp (by omega), ← hh'.2.1]
        exact ⟨vp_in_nI (by omega) (by omega), sa_ytone200 i c hc hl H⟩
    · have hneg : ¬ (0 : Int32) ≤ nI c - nI bk := fun z => by
        have h1 := pk_sneg (a := c) (b := bk) (by omega) (by omega)
        rw [Int32.lt_iff_toInt_lt] at h1
        rw [Int32.le_iff_toInt_le] at z
        omega
      refine ⟨b, b, fun post m H => ?_, fun post m H => ?_⟩
      · refine br_f (nI_ge hi hN) (nm_e (nm_e (br_f (by decide) (br_f (by decide) (br_f (by decide) (br_f hneg (br_f hneg (sa_add c hc (nm_r (nI_1 i) H)))))))))
      · refine br_f (nI_ge hi hN) (nm_r hl (nm_e (nm_e (nm_e (br_f (by decide) (br_f (by decide) (br_t rfl (br_f (nI_ge (by omega) (by omega)) (br_f (nI_ge (by omega) (by omega)) (sa_ytone200 i c hc hl H))))))))))
theorem sa_tone_l (kd N bk : Nat) (a b : Int32) (hkd : kd < 4) (hbk : bk ≤ 16) (hb1 : 1 ≤ bk) (hN : N < 2 ^ 31) :
    ∀ (d i c : Nat) (s : Int32) (lf rt sm le : Nat → Int32), i + d = N → c + d ≤ 96 → sa_Hd c lf rt sm → le 0 = nI c →
    ∃ lf' rt' sm' le', sa_Hd (c + d) lf' rt' sm' ∧ le' 0 = nI (c + d) ∧ (∀ j, 192 ≤ j → sm' j = sm j) ∧ (∀ q, le' (q + 1) = le (q + 1)) ∧
      (∀ post : Int32 → SX → Prop, post (nI N) (nI (c + d), f_size, f_low, f_outBits, f_blocks, f_source, f_check, lf', rt', a_bytes, a_used, a_turnedBit, a_blockLeft, a_blockRight, a_otherLeft, a_otherRight, a_row, a_residue, a_weight, a_out, a_starts) → wX_tone_58 post (nI kd) a b (nI N) (nI bk) (d + 1) s (nI i) (nI c) f_size f_low f_outBits f_blocks f_source f_check lf rt a_bytes a_used a_turnedBit a_blockLeft a_blockRight a_otherLeft a_otherRight a_row a_residue a_weight a_out a_starts) ∧
      (∀ post : Int32 → SY → Prop, post (nI N) (le', sm', a_states) → wY_tone_59 post (nI kd) a b (nI N) (nI bk) (d + 1) s (nI i) le sm a_states) := by
  intro d
  induction d with
  | zero =>
    intro i c s lf rt sm le hi hc hH hl
    obtain rfl : i = N := by omega
    exact ⟨lf, rt, sm, le, hH, hl, fun _ _ => rfl, fun _ => rfl, fun post h => br_t (Int32.le_refl _) h, fun post h => br_t (Int32.le_refl _) h⟩
  | succ d ih =>
    intro i c s lf rt sm le hi hc hH hl
    obtain ⟨l, r, hX, hY⟩ := sa_tone_s (f_size := f_size) (f_low := f_low) (f_outBits := f_outBits) (f_blocks := f_blocks) (f_source := f_source) (f_check := f_check) (a_bytes := a_bytes) (a_used := a_used) (a_turnedBit := a_turnedBit) (a_blockLeft := a_blockLeft) (a_blockRight := a_blockRight) (a_otherLeft := a_otherLeft) (a_otherRight := a_otherRight) (a_row := a_row) (a_residue := a_residue) (a_weight := a_weight) (a_out := a_out) (a_starts := a_starts) (a_states := a_states) kd N bk i c a b s hkd hbk hb1 hN (by omega) (by omega) lf rt sm le hH hl
    obtain ⟨lf', rt', sm', le', k1, k2, k3, k4, k5, k6⟩ := ih (i + 1) (c + 1) (s * 1103515245 + 12345) (upd lf c (sa_wr l)) (upd rt c (sa_wr r)) (upd (upd sm c (sa_wr l)) (96 + c) (sa_wr r)) (upd le 0 (nI (c + 1))) (by omega) (by omega) (sa_Hd_put hH (by omega) (by omega) (fun j hj e => by omega) (sa_wr_sm l) (sa_wr_sm r)) pk_us
    rw [show c + 1 + d = c + (d + 1) from by omega] at k1 k2 k5
    refine ⟨lf', rt', sm', le', k1, k2, fun j hj => ?_, fun q => ?_, fun post h => hX post (d + 1) (k5 post h), fun post h => hY post (d + 1) (k6 post h)⟩
    · rw [k3 j hj, sa_put_hi (by omega) j hj]
    · rw [k4 q, pk_un (by omega)]
end
theorem i_vc_tone {k : Nat} {u : SX} {v : SY} (I : i_Rel k u v) (hk : k + 5 ≤ 2560) (v1 : Int32) (v2 : Int32) (v3 : Int32) (v4 : Int32) : wpX_tone (fun r u' => wpY_tone (fun r' v' => r' = r ∧ i_Rel (k + 5) u' v') v v1 v2 v3 v4) u v1 v2 v3 v4 := by
  obtain ⟨f_length, f_size, f_low, f_outBits, f_blocks, f_source, f_check, a_left, a_right, a_bytes, a_used, a_turnedBit, a_blockLeft, a_blockRight, a_otherLeft, a_otherRight, a_row, a_residue, a_weight, a_out, a_starts⟩ := u
  obtain ⟨a_lengths, a_samples, a_states⟩ := v
  have I2 := I
  obtain ⟨⟨n, hn, rfl, hl, hH⟩, hby, hS⟩ := I2
  refine br_c (fun h1 => br_t h1 ⟨rfl, I⟩) (fun h1 => br_c (fun h2 => br_f h1 (br_t h2 ⟨rfl, I⟩)) (fun h2 => br_c (fun h3 => ?_) (fun h3 => br_f h1 (br_f h2 (br_f h3 ⟨rfl, I⟩)))))
  obtain ⟨kd, hkd, rfl⟩ : ∃ kd, kd < 4 ∧ v1 = nI kd := by
    obtain ⟨j, hj, rfl⟩ := nI_of h1
    exact ⟨j, by
      have h2' : ¬ nI 3 < nI j := h2
      rw [nI_ltI (by omega) hj] at h2'; omega, rfl⟩
  obtain ⟨m, hm, rfl⟩ := nI_of (x := v4) (fun z => by
    rw [Int32.lt_iff_toInt_lt] at z
    rw [Int32.le_iff_toInt_le] at h3
    omega)
  obtain ⟨j, hj, ej⟩ := pk_andE v2 (m := 15) 4 (by decide)
  have e96 : (96 : Int32) - nI n = nI (96 - n) := pk_sub (a := 96) (by omega)
  have key : ∀ N, N ≤ 96 - n → (∀ post : Int32 → SX → Prop, (∀ lf' rt' sm' le', sa_Hd (n + N) lf' rt' sm' ∧ le' 0 = nI (n + N) ∧ (∀ j, 192 ≤ j → sm' j = a_samples j) ∧ (∀ q, le' (q + 1) = a_lengths (q + 1)) ∧
      (∀ post : Int32 → SY → Prop, post (nI N) (le', sm', a_states) → wY_tone_46 post (nI kd) v2 v3 v2 (nI N) a_lengths a_samples a_states) → post (nI N) (nI (n + N), f_size, f_low, f_outBits, f_blocks, f_source, f_check, lf', rt', a_bytes, a_used, a_turnedBit, a_blockLeft, a_blockRight, a_otherLeft, a_otherRight, a_row, a_residue, a_weight, a_out, a_starts)) → wX_tone_42 post (nI kd) v2 v3 (nI N) (nI n) f_size f_low f_outBits f_blocks f_source f_check a_left a_right a_bytes a_used a_turnedBit a_blockLeft a_blockRight a_otherLeft a_otherRight a_row a_residue a_weight a_out a_starts) := by
    intro N hN post H
    obtain ⟨lf', rt', sm', le', k1, k2, k3, k4, k5, k6⟩ := sa_tone_l (f_size := f_size) (f_low := f_low) (f_outBits := f_outBits) (f_blocks := f_blocks) (f_source := f_source) (f_check := f_check) (a_bytes := a_bytes) (a_used := a_used) (a_turnedBit := a_turnedBit) (a_blockLeft := a_blockLeft) (a_blockRight := a_blockRight) (a_otherLeft := a_otherLeft) (a_otherRight := a_otherRight) (a_row := a_row) (a_residue := a_residue) (a_weight := a_weight) (a_out := a_out) (a_starts := a_starts) (a_states := a_states) kd N (j + 1) v2 v3 hkd (by omega) (by omega) (by omega) N 0 n v2 a_left a_right a_samples a_lengths (by omega) (by omega) hH hl
    refine nm_r (e' := nI (j + 1)) (by rw [ej, nI_1]) ⟨N + 1, k5 post (H lf' rt' sm' le' ⟨k1, k2, k3, k4, fun post' h' => ?_⟩)⟩
    exact nm_r (e' := nI (j + 1)) (by rw [ej, nI_1]) ⟨N + 1, k6 post' h'⟩
  rw [e96]
  refine pk_le (96 - n) m (fun h => ?_) (fun h => ?_)
  · refine key (96 - n) (by omega) _ (fun lf' rt' sm' le' ⟨k1, k2, k3, k4, k5⟩ => ?_)
    refine br_f h1 (br_f h2 (br_t h3 (nm_r (e' := nI (96 - n)) (by rw [hl, e96]) (br_t (nI_le h hm) (k5 _ ⟨rfl, ⟨n + (96 - n), by omega, rfl, k2, k1⟩, hby, sa_SS_h hS k3 k4⟩)))))
  · refine key m (by omega) _ (fun lf' rt' sm' le' ⟨k1, k2, k3, k4, k5⟩ => ?_)
    refine br_f h1 (br_f h2 (br_t h3 (nm_r (e' := nI (96 - n)) (by rw [hl, e96]) (br_f (nI_ge h (by omega)) (k5 _ ⟨rfl, ⟨n + m, by omega, rfl, k2, k1⟩, hby, sa_SS_h hS k3 k4⟩)))))
end
section
/-! change -/
theorem sa_half {x : Int32} (h : sa_sm x) : sa_sm (x / 2) := by
  unfold sa_sm at *
  have e : (x / 2).toInt = (x.toInt.tdiv 2) := by
    rw [Int32.toInt_div, show (2 : Int32).toInt = 2 from by decide]
    have h2 : (x.toInt.tdiv 2).natAbs = x.toInt.natAbs / 2 := Int.natAbs_tdiv x.toInt 2
    apply Int.bmod_eq_of_le
    · omega
    · omega
  have h2 : (x.toInt.tdiv 2).natAbs = x.toInt.natAbs / 2 := Int.natAbs_tdiv x.toInt 2
  rw [e]
  omega
/-- two places exchanged -/
def sa_ex (a : Nat → Int32) (i o : Nat) : Nat → Int32 := upd (upd a i (a o)) o (a i)
theorem sa_ex_at (a : Nat → Int32) (i o j : Nat) : sa_ex a i o j = if j = o then a i else if j = i then a o else a j := rfl
theorem sa_Hd_ex {n i o : Nat} {lf rt sm : Nat → Int32} (h : sa_Hd n lf rt sm) (hi : i < n) (ho : o < n) (hn : n ≤ 96) : sa_Hd n (sa_ex lf i o) (sa_ex rt i o) (sa_ex (sa_ex sm i o) (96 + i) (96 + o)) := by
  intro j hj
  have hi' := h i hi
  have ho' := h o ho
  have hj' := h j hj
  rw [sa_ex_at lf, sa_ex_at rt, sa_ex_at _ (96 + i), sa_ex_at _ (96 + i), sa_ex_at sm, sa_ex_at sm, sa_ex_at sm, sa_ex_at sm]
  rw [if_neg (show ¬ j = 96 + o by omega), if_neg (show ¬ j = 96 + i by omega), if_neg (show ¬ 96 + i = o by omega), if_neg (show ¬ 96 + i = i by omega), if_neg (show ¬ 96 + o = o by omega), if_neg (show ¬ 96 + o = i by omega), if_neg (show ¬ 96 + j = o by omega), if_neg (show ¬ 96 + j = i by omega)]
  by_cases e1 : j = o
  · rw [if_pos e1, if_pos e1, if_pos e1, if_pos (show 96 + j = 96 + o by omega)]
    exact hi'
  · rw [if_neg e1, if_neg e1, if_neg e1, if_neg (show ¬ 96 + j = 96 + o by omega)]
    by_cases e2 : j = i
    · rw [if_pos e2, if_pos e2, if_pos e2, if_pos (show 96 + j = 96 + i by omega)]
      exact ho'
    · rw [if_neg e2, if_neg e2, if_neg e2, if_neg (show ¬ 96 + j = 96 + i by omega)]
      exact hj'
section
variable {f_length f_size f_low f_outBits f_blocks f_source f_check : Int32} {a_left a_right a_bytes a_used a_turnedBit a_blockLeft a_blockRight a_otherLeft a_otherRight a_row a_residue a_weight a_out a_starts : Nat → Int32} {a_lengths a_samples a_states : Nat → Int32}
theorem sa_exchange {post : SX → Prop} (i o : Nat) (hi : i < 96) (ho : o < 96) (H : post (f_length, f_size, f_low, f_outBits, f_blocks, f_source, f_check, sa_ex a_left i o, sa_ex a_right i o, a_bytes, a_used, a_turnedBit, a_blockLeft, a_blockRight, a_otherLeft, a_otherRight, a_row, a_residue, a_weight, a_out, a_starts)) : wpX_exchange post (f_length, f_size, f_low, f_outBits, f_blocks, f_source, f_check, a_left, a_right, a_bytes, a_used, a_turnedBit, a_blockLeft, a_blockRight, a_otherLeft, a_otherRight, a_row, a_residue, a_weight, a_out, a_starts) (nI i) (nI o) := by
  have hvi : vp_in (nI i) 96 := vp_in_nI hi (by omega)
  have hvo : vp_in (nI o) 96 := vp_in_nI ho (by omega)
  refine ⟨hvi, nm_r (e' := a_left i) (by rw [nI_clamp (by omega)]) ⟨hvi, nm_r (e' := a_right i) (by rw [nI_clamp (by omega)]) ⟨hvo, hvi, nm_r (e' := upd a_left i (a_left o)) (by rw [nI_clamp (by omega), nI_clamp (by omega)]) ⟨hvo, hvi, nm_r (e' := upd a_right i (a_right o)) (by rw [nI_clamp (by omega), nI_clamp (by omega)]) ⟨hvo, nm_r (e' := sa_ex a_left i o) (by rw [nI_clamp (by omega)]; rfl) ⟨hvo, nm_r (e' := sa_ex a_right i o) (by rw [nI_clamp (by omega)]; rfl) H⟩⟩⟩⟩⟩⟩
theorem sa_yexchange {post : SY → Prop} {x y : Int32} (i o : Nat) (hi : i < 960) (ho : o < 960) (hx : x = nI i) (hy : y = nI o) (H : post (a_lengths, sa_ex a_samples i o, a_states)) : wpY_exchange post (a_lengths, a_samples, a_states) x y := by
  subst hx hy
  have hvi : vp_in (nI i) 960 := vp_in_nI hi (by omega)
  have hvo : vp_in (nI o) 960 := vp_in_nI ho (by omega)
  exact ⟨hvi, nm_r (e' := a_samples i) (by rw [nI_clamp (by omega)]) ⟨hvo, hvi, nm_r (e' := upd a_samples i (a_samples o)) (by rw [nI_clamp (by omega), nI_clamp (by omega)]) ⟨hvo, nm_r (e' := sa_ex a_samples i o) (by rw [nI_clamp (by omega)]; rfl) H⟩⟩⟩
theorem sa_change0_r {post : Int32 → SX → Prop} (n : Nat) (hn : n ≤ 96) (H : post (nI n) (nI n, f_size, f_low, f_outBits, f_blocks, f_source, f_check, a_left, a_right, a_bytes, a_used, a_turnedBit, a_blockLeft, a_blockRight, a_otherLeft, a_otherRight, a_row, a_residue, a_weight, a_out, a_starts)) : ∀ (d i m : Nat), i + d = n → n ≤ 2 * i + 1 → d < m → wX_change_15 post (nI 0) m (nI i) (nI n) f_size f_low f_outBits f_blocks f_source f_check a_left a_right a_bytes a_used a_turnedBit a_blockLeft a_blockRight a_otherLeft a_otherRight a_row a_residue a_weight a_out a_starts := by
  intro d
  induction d with
  | zero =>
    intro i m hi h2 hm
    obtain ⟨m, rfl⟩ : ∃ q, m = q + 1 := ⟨m - 1, by omega⟩
    obtain rfl : i = n := by omega
    exact br_t (Int32.le_refl _) H
  | succ d ih =>
    intro i m hi h2 hm
    obtain ⟨m, rfl⟩ : ∃ q, m = q + 1 := ⟨m - 1, by omega⟩
    refine br_f (nI_ge (by omega) (by omega)) (nm_r (e' := nI (n - 1 - i)) ?_ (br_t rfl (br_t (nI_le (by omega) (by omega)) ?_)))
    · rw [show nI n - 1 = nI (n - 1) from pk_sub (b := 1) (by omega), pk_sub (by omega)]
    · exact br_f (by decide) (br_f (by decide) (br_f (by decide) (nm_r (nI_1 i) (ih (i + 1) m (by omega) (by omega) (by omega)))))
theorem sa_change0 (n : Nat) (hn : n ≤ 96) : ∀ (d i : Nat) (lf rt sm : Nat → Int32), i + d = n / 2 → sa_Hd n lf rt sm →
    ∃ lf' rt' sm', sa_Hd n lf' rt' sm' ∧ (∀ j, 192 ≤ j → sm' j = sm j) ∧
      (∀ (post : Int32 → SX → Prop) (m : Nat), n - i < m → post (nI n) (nI n, f_size, f_low, f_outBits, f_blocks, f_source, f_check, lf', rt', a_bytes, a_used, a_turnedBit, a_blockLeft, a_blockRight, a_otherLeft, a_otherRight, a_row, a_residue, a_weight, a_out, a_starts) → wX_change_15 post (nI 0) m (nI i) (nI n) f_size f_low f_outBits f_blocks f_source f_check lf rt a_bytes a_used a_turnedBit a_blockLeft a_blockRight a_otherLeft a_otherRight a_row a_residue a_weight a_out a_starts) ∧
      (∀ (post : Int32 → SY → Prop) (m : Nat), d < m → post (nI n) (a_lengths, sm', a_states) → wY_change_22 post (nI 0) (nI n) m (nI i) a_lengths sm a_states) := by
  intro d
  induction d with
  | zero =>
    intro i lf rt sm hi hH
    have e2 : nI n / (2 : Int32) = nI (n / 2) := pk_div (d := 2) (by omega) (by omega) (by omega)
    refine ⟨lf, rt, sm, hH, fun _ _ => rfl, fun post m hm h => ?_, fun post m hm h => ?_⟩
    · exact sa_change0_r n hn h (n - i) i m (by omega) (by omega) hm
    · obtain ⟨m, rfl⟩ : ∃ q, m = q + 1 := ⟨m - 1, by omega⟩
      refine br_t rfl ⟨by decide, ?_⟩
      rw [e2]
      refine br_t (nI_le (by omega) (by omega)) ⟨1, br_t (Int32.le_refl _) h⟩
  | succ d ih =>
    intro i lf rt sm hi hH
    have e2 : nI n / (2 : Int32) = nI (n / 2) := pk_div (d := 2) (by omega) (by omega) (by omega)
    have eo : nI n - 1 - nI i = nI (n - 1 - i) := by
      rw [show nI n - 1 = nI (n - 1) from pk_sub (b := 1) (by omega), pk_sub (by omega)]
    have eo2 : (96 : Int32) + nI n - 1 - nI i = nI (96 + (n - 1 - i)) := by
      rw [show (96 : Int32) + nI n = nI (96 + n) from nI_add 96 n, show nI (96 + n) - 1 = nI (96 + n - 1) from pk_sub (b := 1) (by omega), pk_sub (by omega)]
      exact congrArg nI (by omega)
    obtain ⟨lf', rt', sm', k1, k2, k3, k4⟩ := ih (i + 1) (sa_ex lf i (n - 1 - i)) (sa_ex rt i (n - 1 - i)) (sa_ex (sa_ex sm i (n - 1 - i)) (96 + i) (96 + (n - 1 - i))) (by omega) (sa_Hd_ex hH (by omega) (by omega) hn)
    refine ⟨lf', rt', sm', k1, fun j hj => ?_, fun post m hm h => ?_, fun post m hm h => ?_⟩
    · rw [k2 j hj, sa_ex_at, if_neg (by omega), if_neg (by omega), sa_ex_at, if_neg (by omega), if_neg (by omega)]
    · obtain ⟨m, rfl⟩ : ∃ q, m = q + 1 := ⟨m - 1, by omega⟩
      refine br_f (nI_ge (by omega) (by omega)) (nm_r eo (br_t rfl (br_f (nI_ge (by omega) (by omega)) (sa_exchange i (n - 1 - i) (by omega) (by omega) (nm_r (nI_1 i) (k3 post m (by omega) h))))))
    · obtain ⟨m, rfl⟩ : ∃ q, m = q + 1 := ⟨m - 1, by omega⟩
      refine br_t rfl ⟨by decide, ?_⟩
      rw [e2]
      refine br_f (nI_ge (by omega) (by omega)) (sa_yexchange i (n - 1 - i) (by omega) (by omega) rfl eo (sa_yexchange (96 + i) (96 + (n - 1 - i)) (by omega) (by omega) (nI_add 96 i) eo2 (nm_r (nI_1 i) (k4 post m (by omega) h))))
theorem sa_change_s (kd n i : Nat) (h0 : 1 ≤ kd) (hkd : kd ≤ 3) (hn : n ≤ 96) (hi : i < n) (lf rt sm : Nat → Int32) (hH : sa_Hd n lf rt sm) :
    ∃ l r : Int32, sa_sm l ∧ sa_sm r ∧
      (∀ (post : Int32 → SX → Prop) (m : Nat), wX_change_15 post (nI kd) m (nI (i + 1)) (nI n) f_size f_low f_outBits f_blocks f_source f_check (upd lf i l) (upd rt i r) a_bytes a_used a_turnedBit a_blockLeft a_blockRight a_otherLeft a_otherRight a_row a_residue a_weight a_out a_starts → wX_change_15 post (nI kd) (m + 1) (nI i) (nI n) f_size f_low f_outBits f_blocks f_source f_check lf rt a_bytes a_used a_turnedBit a_blockLeft a_blockRight a_otherLeft a_otherRight a_row a_residue a_weight a_out a_starts) ∧
      (∀ (post : Int32 → SY → Prop) (m : Nat), wY_change_67 post (nI kd) (nI n) m (nI (i + 1)) a_lengths (upd (upd sm i l) (96 + i) r) a_states → wY_change_67 post (nI kd) (nI n) (m + 1) (nI i) a_lengths sm a_states) := by
  have hh := hH i hi
  have hv : vp_in (nI i) 96 := vp_in_nI (by omega) (by omega)
  have e96 : (96 : Int32) + nI i = nI (96 + i) := nI_add 96 i
  have hge := nI_ge hi (show n < 2 ^ 31 by omega)
  have hv1 : vp_in (nI i) 960 := vp_in_nI (by omega) (by omega)
  have hv2 : vp_in ((96 : Int32) + nI i) 960 := by rw [e96]; exact vp_in_nI (by omega) (by omega)
  have r1 : sm (nI i).toNatClampNeg = lf i := by rw [nI_clamp (by omega)]; exact hh.1.symm
  have r2 : sm ((96 : Int32) + nI i).toNatClampNeg = rt i := by rw [e96, nI_clamp (by omega)]; exact hh.2.1.symm
  obtain rfl | rfl | rfl : kd = 1 ∨ kd = 2 ∨ kd = 3 := by omega
  · refine ⟨rt i, lf i, hh.2.2.2, hh.2.2.1, fun post m H => ?_, fun post m H => ?_⟩
    · refine br_f hge (nm_e (br_f (by decide) (br_t rfl ⟨hv, nm_r (e' := lf i) (by rw [nI_clamp (by omega)]) ⟨hv, hv, nm_r (e' := upd lf i (rt i)) (by rw [nI_clamp (by omega)]) ⟨hv, nm_r (by rw [nI_clamp (by omega)]) (nm_r (nI_1 i) H)⟩⟩⟩)))
    · refine br_f (by decide) (br_f hge ⟨hv1, nm_r r1 ⟨hv2, nm_r r2 (br_t rfl (sa_yput i (by omega) (br_f (by decide) (br_f (by decide) (nm_r (nI_1 i) H)))))⟩⟩)
  · refine ⟨lf i / 2, rt i / 2, sa_half hh.2.2.1, sa_half hh.2.2.2, fun post m H => ?_, fun post m H => ?_⟩
    · refine br_f hge (nm_e (br_f (by decide) (br_f (by decide) (br_t rfl ⟨hv, by decide, hv, nm_r (e' := upd lf i (lf i / 2)) (by rw [nI_clamp (by omega)]) ⟨hv, by decide, hv, nm_r (e' := upd rt i (rt i / 2)) (by rw [nI_clamp (by omega)]) (nm_r (nI_1 i) H)⟩⟩))))
    · refine br_f (by decide) (br_f hge ⟨hv1, nm_r r1 ⟨hv2, nm_r r2 (br_f (by decide) (br_t rfl ⟨by decide, by decide, sa_yput i (by omega) (br_f (by decide) (nm_r (nI_1 i) H))⟩))⟩⟩)
  · refine ⟨sa_wr (2 * lf i), sa_wr (2 * rt i), sa_wr_sm _, sa_wr_sm _, fun post m H => ?_, fun post m H => ?_⟩
    · refine br_f hge (nm_e (br_f (by decide) (br_f (by decide) (br_f (by decide) (br_t rfl ⟨hv, ?_⟩)))))
      refine And.intro hv (nm_r (e' := upd lf i (sa_wr (2 * lf i))) (by rw [nI_clamp (by omega)]; rfl) ⟨hv, ?_⟩)
      refine And.intro hv (nm_r (e' := upd rt i (sa_wr (2 * rt i))) (by rw [nI_clamp (by omega)]; rfl) (nm_r (nI_1 i) H))
    · refine br_f (by decide) (br_f hge ⟨hv1, nm_r r1 ⟨hv2, nm_r r2 (br_f (by decide) (br_f (by decide) (br_t rfl ?_)))⟩⟩)
      unfold wpY_wrapped
      dsimp only
      exact sa_yput (l := sa_wr (2 * lf i)) (r := sa_wr (2 * rt i)) i (by omega) (nm_r (nI_1 i) H)
theorem sa_change_l (kd n : Nat) (h0 : 1 ≤ kd) (hkd : kd ≤ 3) (hn : n ≤ 96) : ∀ (d i : Nat) (lf rt sm : Nat → Int32), i + d = n → sa_Hd n lf rt sm →
    ∃ lf' rt' sm', sa_Hd n lf' rt' sm' ∧ (∀ j, 192 ≤ j → sm' j = sm j) ∧
      (∀ (post : Int32 → SX → Prop), post (nI n) (nI n, f_size, f_low, f_outBits, f_blocks, f_source, f_check, lf', rt', a_bytes, a_used, a_turnedBit, a_blockLeft, a_blockRight, a_otherLeft, a_otherRight, a_row, a_residue, a_weight, a_out, a_starts) → wX_change_15 post (nI kd) (d + 1) (nI i) (nI n) f_size f_low f_outBits f_blocks f_source f_check lf rt a_bytes a_used a_turnedBit a_blockLeft a_blockRight a_otherLeft a_otherRight a_row a_residue a_weight a_out a_starts) ∧
      (∀ (post : Int32 → SY → Prop), post (nI n) (a_lengths, sm', a_states) → wY_change_67 post (nI kd) (nI n) (d + 1) (nI i) a_lengths sm a_states) := by
  intro d
  induction d with
  | zero =>
    intro i lf rt sm hi hH
    obtain rfl : i = n := by omega
    exact ⟨lf, rt, sm, hH, fun _ _ => rfl, fun post h => br_t (Int32.le_refl _) h, fun post h => br_f (nI_nle (by omega) (by omega)) (br_t (Int32.le_refl _) h)⟩
  | succ d ih =>
    intro i lf rt sm hi hH
    obtain ⟨l, r, hl, hr, hX, hY⟩ := sa_change_s (f_size := f_size) (f_low := f_low) (f_outBits := f_outBits) (f_blocks := f_blocks) (f_source := f_source) (f_check := f_check) (a_bytes := a_bytes) (a_used := a_used) (a_turnedBit := a_turnedBit) (a_blockLeft := a_blockLeft) (a_blockRight := a_blockRight) (a_otherLeft := a_otherLeft) (a_otherRight := a_otherRight) (a_row := a_row) (a_residue := a_residue) (a_weight := a_weight) (a_out := a_out) (a_starts := a_starts) (a_lengths := a_lengths) (a_states := a_states) kd n i h0 hkd hn (by omega) lf rt sm hH
    obtain ⟨lf', rt', sm', k1, k2, k3, k4⟩ := ih (i + 1) (upd lf i l) (upd rt i r) (upd (upd sm i l) (96 + i) r) (by omega) (sa_Hd_put hH (by omega) hn (fun j hj _ => hj) hl hr)
    refine ⟨lf', rt', sm', k1, fun j hj => ?_, fun post h => hX post (d + 1) (k3 post h), fun post h => hY post (d + 1) (k4 post h)⟩
    rw [k2 j hj, sa_put_hi (by omega) j hj]
end
theorem i_vc_change {k : Nat} {u : SX} {v : SY} (I : i_Rel k u v) (hk : k + 5 ≤ 2560) (v1 : Int32) : wpX_change (fun r u' => wpY_change (fun r' v' => r' = r ∧ i_Rel (k + 5) u' v') v v1) u v1 := by
  obtain ⟨f_length, f_size, f_low, f_outBits, f_blocks, f_source, f_check, a_left, a_right, a_bytes, a_used, a_turnedBit, a_blockLeft, a_blockRight, a_otherLeft, a_otherRight, a_row, a_residue, a_weight, a_out, a_starts⟩ := u
  obtain ⟨a_lengths, a_samples, a_states⟩ := v
  have I2 := I
  obtain ⟨⟨n, hn, rfl, hl, hH⟩, hby, hS⟩ := I2
  refine br_c (fun h1 => br_t h1 ⟨rfl, I⟩) (fun h1 => br_c (fun h2 => ?_) (fun h2 => br_f h1 (br_f h2 ⟨rfl, I⟩)))
  obtain ⟨kd, hkd, rfl⟩ : ∃ kd, kd ≤ 3 ∧ v1 = nI kd := nI_of2 (M := 3) (by decide) h1 h2
  by_cases h0 : kd = 0
  · subst h0
    obtain ⟨lf', rt', sm', k1, k2, k3, k4⟩ := sa_change0 (f_size := f_size) (f_low := f_low) (f_outBits := f_outBits) (f_blocks := f_blocks) (f_source := f_source) (f_check := f_check) (a_bytes := a_bytes) (a_used := a_used) (a_turnedBit := a_turnedBit) (a_blockLeft := a_blockLeft) (a_blockRight := a_blockRight) (a_otherLeft := a_otherLeft) (a_otherRight := a_otherRight) (a_row := a_row) (a_residue := a_residue) (a_weight := a_weight) (a_out := a_out) (a_starts := a_starts) (a_lengths := a_lengths) (a_states := a_states) n hn (n / 2) 0 a_left a_right a_samples (by omega) hH
    refine ⟨n + 1, k3 _ (n + 1) (by omega) (br_f h1 (br_t h2 (nm_r hl ⟨n / 2 + 1, k4 _ _ (by omega) ⟨rfl, ⟨n, hn, rfl, hl, k1⟩, hby, sa_SS_h hS k2 (fun _ => rfl)⟩⟩)))⟩
  · obtain ⟨lf', rt', sm', k1, k2, k3, k4⟩ := sa_change_l (f_size := f_size) (f_low := f_low) (f_outBits := f_outBits) (f_blocks := f_blocks) (f_source := f_source) (f_check := f_check) (a_bytes := a_bytes) (a_used := a_used) (a_turnedBit := a_turnedBit) (a_blockLeft := a_blockLeft) (a_blockRight := a_blockRight) (a_otherLeft := a_otherLeft) (a_otherRight := a_otherRight) (a_row := a_row) (a_residue := a_residue) (a_weight := a_weight) (a_out := a_out) (a_starts := a_starts) (a_lengths := a_lengths) (a_states := a_states) kd n (by omega) hkd hn n 0 a_left a_right a_samples (by omega) hH
    refine ⟨n + 1, k3 _ (br_f h1 (br_t h2 (nm_r hl ⟨1, br_f (nI_ne0 (by omega) (by omega)) ⟨n + 1, k4 _ ⟨rfl, ⟨n, hn, rfl, hl, k1⟩, hby, sa_SS_h hS k2 (fun _ => rfl)⟩⟩⟩)))⟩
end
section
/-! slots: what is asked of one -/
theorem sa_isSlot {post : Int32 → Prop} {x : Int32} (H1 : ∀ s, s < 4 → x = nI s → post 1) (H0 : (x < 0 ∨ nI 4 ≤ x) → post 0) : wpX_isSlot post x := by
  refine br_c (fun h => H0 (Or.inl h)) (fun h => br_c (fun h2 => H0 (Or.inr h2)) (fun h2 => ?_))
  obtain ⟨j, hj, rfl⟩ := nI_of h
  have h2' : ¬ nI 4 ≤ nI j := h2
  rw [nI_leI (by omega) hj] at h2'
  exact H1 j (by omega) rfl
theorem sa_slot_n {x : Int32} {s : Nat} (h : x < 0 ∨ nI 4 ≤ x) (hs : s < 4) (e : x = nI s) : False := by
  subst e
  rcases h with h | h
  · exact nI_pos (by omega) h
  · rw [nI_leI (by omega) (by omega)] at h; omega
theorem sa_ck_dam {B : Nat → Int32} {us n t : Nat} {L R : Nat → Int32} {ls : Nat → List Bool} (hP : sa_Pk (sa_tb B t) us n L R ls) (ht : t < 8 * us) (hc : sa_ck (sa_tb B t) us) : ¬ sa_ck B us := by
  have hus := sa_Pk_us hP
  have h := sa_ck_tb (B := sa_tb B t) (us := us) hP.2.2.2.2.2.2.1 (by omega) t ht hc
  rw [sa_tb_tb] at h
  exact h
theorem sa_SS_u {bs us tu le sm st bs' us' tu' le' sm' st' : Nat → Int32} (s : Nat) (h : sa_SS bs us tu le sm st) (hb : ∀ r, r ≠ s → ∀ j, j < 420 → sa_lc bs' r j = sa_lc bs r j) (hu : ∀ r, r ≠ s → us' r = us r) (ht : ∀ r, r ≠ s → tu' r = tu r) (hst : ∀ r, r ≠ s → st' r = st r) (hle : ∀ r, r ≠ s → le' (r + 1) = le (r + 1))
    (hsm : ∀ r, r ≠ s → ∀ i, i < 192 → sm' (192 * (r + 1) + i) = sm (192 * (r + 1) + i))
    (hs : sa_Slot (sa_lc bs' s) (us' s) (tu' s) (st' s) (le' (s + 1)) (fun i => sm' (192 * (s + 1) + i)) (fun i => sm' (192 * (s + 1) + (96 + i)))) : sa_SS bs' us' tu' le' sm' st' := by
  intro r hr
  by_cases e : r = s
  · rw [e]; exact hs
  · rw [hu r e, ht r e, hst r e, hle r e]
    exact sa_Slot_c (fun j hj => (hb r e j hj).symm) (fun i hi => ⟨(hsm r e i (by omega)).symm, (hsm r e (96 + i) (by omega)).symm⟩) (h r hr)
theorem sa_ou_lc {bs bs0 : Nat → Int32} {s : Nat} (h : sa_ou bs bs0 s) : ∀ r, r ≠ s → ∀ j, j < 420 → sa_lc bs r j = sa_lc bs0 r j := by
  intro r hr j hj
  unfold sa_lc
  exact h _ (by omega)
section
variable {f_length f_size f_low f_outBits f_blocks f_source f_check : Int32} {a_left a_right a_bytes a_used a_turnedBit a_blockLeft a_blockRight a_otherLeft a_otherRight a_row a_residue a_weight a_out a_starts : Nat → Int32} {a_lengths a_samples a_states : Nat → Int32}
theorem sa_badSlot {post : Int32 → Prop} {x : Int32} (H0 : ∀ s, s < 4 → x = nI s → post 0) (H1 : (x < 0 ∨ nI 4 ≤ x) → post 1) : wpY_badSlot post (a_lengths, a_samples, a_states) x := by
  refine br_c (fun h => H1 (Or.inl h)) (fun h => ?_)
  obtain ⟨j, hj, rfl⟩ := nI_of h
  exact pk_le j 3 (fun h2 => H0 j (by omega) rfl) (fun h2 => H1 (Or.inr (nI_le (by omega) hj)))
theorem sa_badSlot_g {post : Int32 → Prop} (s : Nat) (hs : s < 4) (H : post 0) : wpY_badSlot post (a_lengths, a_samples, a_states) (nI s) := sa_badSlot (fun _ _ _ => H) (fun z => (sa_slot_n z hs rfl).elim)
theorem sa_badSlot_b {post : Int32 → Prop} {x : Int32} (h : x < 0 ∨ nI 4 ≤ x) (H : post 1) : wpY_badSlot post (a_lengths, a_samples, a_states) x := sa_badSlot (fun _ hs e => (sa_slot_n h hs e).elim) (fun _ => H)
theorem sa_trouble_b {post : Int32 → SX → Prop} {x : Int32} (h : x < 0 ∨ nI 4 ≤ x) (H : post (-5001) (f_length, f_size, f_low, f_outBits, f_blocks, f_source, f_check, a_left, a_right, a_bytes, a_used, a_turnedBit, a_blockLeft, a_blockRight, a_otherLeft, a_otherRight, a_row, a_residue, a_weight, a_out, a_starts)) : wpX_trouble post (f_length, f_size, f_low, f_outBits, f_blocks, f_source, f_check, a_left, a_right, a_bytes, a_used, a_turnedBit, a_blockLeft, a_blockRight, a_otherLeft, a_otherRight, a_row, a_residue, a_weight, a_out, a_starts) x :=
by
  unfold wpX_trouble
  dsimp only
  exact sa_isSlot (fun _ hs e => (sa_slot_n h hs e).elim) (fun _ => br_t rfl H)
theorem sa_us_ne {us : Nat} (h5 : 5 ≤ us) (h : us ≤ 359) : ¬ nI us = 0 := nI_ne0 (by omega) (by omega)
theorem sa_whole {post : Int32 → SX → Prop} {len st : Int32} {L R : Nat → Int32} (s : Nat) (hs : s < 4) (hS : sa_Slot (sa_lc a_bytes s) (a_used s) (a_turnedBit s) st len L R) (h0 : ¬ st = 0)
    (H1 : ∀ (c : Int32) (us n : Nat) (ls : Nat → List Bool), st = 1 → a_used s = nI us → a_turnedBit s = -1 → len = nI n → sa_Pk (sa_lc a_bytes s) us n L R ls → sa_ck (sa_lc a_bytes s) us → post 1 (f_length, f_size, f_low, f_outBits, f_blocks, f_source, c, a_left, a_right, a_bytes, a_used, a_turnedBit, a_blockLeft, a_blockRight, a_otherLeft, a_otherRight, a_row, a_residue, a_weight, a_out, a_starts))
    (H2 : ∀ (c : Int32), st = 2 → post 0 (f_length, f_size, f_low, f_outBits, f_blocks, f_source, c, a_left, a_right, a_bytes, a_used, a_turnedBit, a_blockLeft, a_blockRight, a_otherLeft, a_otherRight, a_row, a_residue, a_weight, a_out, a_starts)) : wpX_isWhole post (f_length, f_size, f_low, f_outBits, f_blocks, f_source, f_check, a_left, a_right, a_bytes, a_used, a_turnedBit, a_blockLeft, a_blockRight, a_otherLeft, a_otherRight, a_row, a_residue, a_weight, a_out, a_starts) (nI s) := by
  rcases hS with ⟨h1, h2⟩ | ⟨h1, us, n, ls, h2, h3, h4, h5, h6⟩ | ⟨h1, us, n, ls, t, h2, h3, ht, h4, h5, h6⟩
  · exact absurd h2 h0
  · have hus := sa_Pk_us h5
    exact sa_isWhole s us hs (by omega) h2 (fun c _ => H1 c us n ls h1 h2 h3 h4 h5 h6) (fun c z => absurd h6 z)
  · have hus := sa_Pk_us h5
    exact sa_isWhole s us hs (by omega) h2 (fun c z => absurd z (sa_ck_dam h5 ht h6)) (fun c _ => H2 c h1)
theorem sa_used0 {len st : Int32} {L R : Nat → Int32} {s : Nat} (hS : sa_Slot (sa_lc a_bytes s) (a_used s) (a_turnedBit s) st len L R) : (a_used s = 0 ∧ st = 0) ∨ (¬ a_used s = 0 ∧ ¬ st = 0) := by
  rcases hS with ⟨h1, h2⟩ | ⟨h1, us, n, ls, h2, h3, h4, h5, h6⟩ | ⟨h1, us, n, ls, t, h2, h3, ht, h4, h5, h6⟩
  · exact Or.inl ⟨h1, h2⟩
  · have hus := sa_Pk_us h5
    exact Or.inr ⟨by rw [h2]; exact sa_us_ne (by omega) (by omega), by rw [h1]; decide⟩
  · have hus := sa_Pk_us h5
    exact Or.inr ⟨by rw [h2]; exact sa_us_ne (by omega) (by omega), by rw [h1]; decide⟩
theorem sa_trouble {post : Int32 → SX → Prop} {len st : Int32} {L R : Nat → Int32} (s : Nat) (hs : s < 4) (hS : sa_Slot (sa_lc a_bytes s) (a_used s) (a_turnedBit s) st len L R)
    (H0 : st = 0 → post (-5002) (f_length, f_size, f_low, f_outBits, f_blocks, f_source, f_check, a_left, a_right, a_bytes, a_used, a_turnedBit, a_blockLeft, a_blockRight, a_otherLeft, a_otherRight, a_row, a_residue, a_weight, a_out, a_starts))
    (H1 : ∀ (c : Int32) (us n : Nat) (ls : Nat → List Bool), st = 1 → len = nI n → sa_Pk (sa_lc a_bytes s) us n L R ls → post 0 (f_length, f_size, f_low, f_outBits, f_blocks, f_source, c, a_left, a_right, a_bytes, a_used, a_turnedBit, a_blockLeft, a_blockRight, a_otherLeft, a_otherRight, a_row, a_residue, a_weight, a_out, a_starts))
    (H2 : ∀ (c : Int32), st = 2 → post (-5003) (f_length, f_size, f_low, f_outBits, f_blocks, f_source, c, a_left, a_right, a_bytes, a_used, a_turnedBit, a_blockLeft, a_blockRight, a_otherLeft, a_otherRight, a_row, a_residue, a_weight, a_out, a_starts)) : wpX_trouble post (f_length, f_size, f_low, f_outBits, f_blocks, f_source, f_check, a_left, a_right, a_bytes, a_used, a_turnedBit, a_blockLeft, a_blockRight, a_otherLeft, a_otherRight, a_row, a_residue, a_weight, a_out, a_starts) (nI s) := by
  unfold wpX_trouble
  dsimp only
  refine sa_isSlot (fun _ _ _ => br_f (by decide) ⟨vp_in_nI hs (by omega), ?_⟩) (fun z => (sa_slot_n z hs rfl).elim)
  rw [nI_clamp (by omega)]
  rcases sa_used0 hS with ⟨u0, s0⟩ | ⟨u0, s0⟩
  · exact br_t u0 (H0 s0)
  · refine br_f u0 (sa_whole s hs hS s0 (fun c us n ls h1 _ _ h4 h5 _ => br_f (by decide) (H1 c us n ls h1 h4 h5)) (fun c h => br_t rfl (H2 c h)))
theorem sa_refused0 {post : Int32 → Prop} (s : Nat) (hs : s < 4) (h : a_states s = 0) (H : post (-5002)) : wpY_refused post (a_lengths, a_samples, a_states) (nI s) := by
  refine ⟨vp_in_nI hs (by omega), ?_⟩
  rw [nI_clamp (by omega)]
  exact br_t h H
theorem sa_refused2 {post : Int32 → Prop} (s : Nat) (hs : s < 4) (h : a_states s = 2) (H : post (-5003)) : wpY_refused post (a_lengths, a_samples, a_states) (nI s) := by
  refine ⟨vp_in_nI hs (by omega), ?_⟩
  rw [nI_clamp (by omega), h]
  exact br_f (by decide) ⟨vp_in_nI hs (by omega), br_t rfl H⟩
theorem sa_refused1 {post : Int32 → Prop} (s : Nat) (hs : s < 4) (h : a_states s = 1) (H : post 0) : wpY_refused post (a_lengths, a_samples, a_states) (nI s) := by
  refine ⟨vp_in_nI hs (by omega), ?_⟩
  rw [nI_clamp (by omega), h]
  exact br_f (by decide) ⟨vp_in_nI hs (by omega), br_f (by decide) H⟩
/-- the reference's copy of a sound -/
theorem sa_copy14 {post : SY → Prop} (p q : Nat) (hp : p < 5) (hq : q < 5) (hpq : p ≠ q)
    (H : ∀ sm, (∀ i, i < 192 → sm (192 * q + i) = a_samples (192 * p + i)) → (∀ j, j < 192 * q ∨ 192 * q + 192 ≤ j → sm j = a_samples j) → post (a_lengths, sm, a_states)) :
    ∀ (d i m : Nat) (sm : Nat → Int32), i + d = 192 → d < m → (∀ j, j < i → sm (192 * q + j) = a_samples (192 * p + j)) → (∀ j, j < 192 * q ∨ 192 * q + 192 ≤ j → sm j = a_samples j) →
    wY_copy_14 post (nI p) (nI q) m (nI i) a_lengths sm a_states := by
  intro d
  induction d with
  | zero =>
    intro i m sm hi hm h1 h2
    obtain ⟨m, rfl⟩ : ∃ w, m = w + 1 := ⟨m - 1, by omega⟩
    obtain rfl : i = 192 := by omega
    exact br_t (Int32.le_refl _) (H sm h1 h2)
  | succ d ih =>
    intro i m sm hi hm h1 h2
    obtain ⟨m, rfl⟩ : ∃ w, m = w + 1 := ⟨m - 1, by omega⟩
    have e1 : (192 : Int32) * nI p + nI i = nI (192 * p + i) := by rw [show (192 : Int32) * nI p = nI (192 * p) from pk_mul 192 p, nI_add]
    have e2 : (192 : Int32) * nI q + nI i = nI (192 * q + i) := by rw [show (192 : Int32) * nI q = nI (192 * q) from pk_mul 192 q, nI_add]
    refine br_f (nI_ge (b := 192) (by omega) (by omega)) ?_
    rw [e1, e2, nI_clamp (by omega), nI_clamp (by omega)]
    refine ⟨vp_in_nI (by omega) (by omega), vp_in_nI (by omega) (by omega), nm_e (nm_r (nI_1 i) (ih (i + 1) m _ (by omega) (by omega) (fun j hj => ?_) (fun j hj => ?_)))⟩
    · by_cases e : j = i
      · rw [e, pk_us]; exact h2 _ (by omega)
      · rw [pk_un (by omega)]; exact h1 j (by omega)
    · rw [pk_un (by omega)]; exact h2 j hj
theorem sa_copy {post : SY → Prop} {x y : Int32} (p q : Nat) (hp : p < 5) (hq : q < 5) (hpq : p ≠ q) (hx : x = nI p) (hy : y = nI q)
    (H : ∀ sm, (∀ i, i < 192 → sm (192 * q + i) = a_samples (192 * p + i)) → (∀ j, j < 192 * q ∨ 192 * q + 192 ≤ j → sm j = a_samples j) → post (upd a_lengths q (a_lengths p), sm, a_states)) :
    wpY_copy post (a_lengths, a_samples, a_states) x y := by
  subst hx hy
  refine ⟨vp_in_nI hp (by omega), vp_in_nI hq (by omega), nm_r (e' := upd a_lengths q (a_lengths p)) (by rw [nI_clamp (by omega), nI_clamp (by omega)]) ⟨193, ?_⟩⟩
  exact sa_copy14 p q hp hq hpq H 192 0 193 a_samples (by omega) (by omega) (fun j hj => absurd hj (by omega)) (fun _ _ => rfl)
end
theorem i_vc_store {k : Nat} {u : SX} {v : SY} (I : i_Rel k u v) (hk : k + 5 ≤ 2560) (v1 : Int32) (v2 : Int32) : wpX_store (fun r u' => wpY_store (fun r' v' => r' = r ∧ i_Rel (k + 5) u' v') v v1 v2) u v1 v2 := by
  obtain ⟨f_length, f_size, f_low, f_outBits, f_blocks, f_source, f_check, a_left, a_right, a_bytes, a_used, a_turnedBit, a_blockLeft, a_blockRight, a_otherLeft, a_otherRight, a_row, a_residue, a_weight, a_out, a_starts⟩ := u
  obtain ⟨a_lengths, a_samples, a_states⟩ := v
  have I2 := I
  obtain ⟨⟨n, hn, rfl, hl, hH⟩, hby, hS⟩ := I2
  unfold wpX_store wpY_store
  dsimp only
  refine sa_isSlot (fun s hs e => br_f (by decide) ?_) (fun z => br_t rfl (sa_badSlot_b z (br_f (by decide) ⟨rfl, I⟩)))
  subst e
  refine sa_packHand s n hs hn hby (fun i hi => ⟨(hH i hi).2.2.1, (hH i hi).2.2.2⟩) (fun us ls size low outBits blocks ck bs bl br ro res wt out sts hby' ho hP hc => ?_)
  dsimp only
  refine sa_badSlot_g s hs (br_t rfl (sa_copy 0 (s + 1) (by omega) (by omega) (by omega) rfl (nI_1 s) (fun sm h1 h2 => ?_)))
  dsimp only
  refine And.intro (vp_in_nI hs (by omega)) (nm_r (e' := upd a_states s 1) (by rw [nI_clamp (by omega)]) ⟨rfl, ⟨n, hn, rfl, ?_, ?_⟩, hby', ?_⟩)
  · rw [pk_un (by omega)]; exact hl
  · intro i hi
    rw [h2 i (by omega), h2 (96 + i) (by omega)]
    exact hH i hi
  · refine sa_SS_u s hS (sa_ou_lc ho) (fun r hr => pk_un hr) (fun r hr => pk_un hr) (fun r hr => pk_un hr) (fun r hr => pk_un (by omega)) (fun r hr i hi => h2 _ (by omega)) ?_
    rw [pk_us, pk_us, pk_us, pk_us, hl]
    refine Or.inr (Or.inl ⟨rfl, us, n, ls, rfl, rfl, rfl, sa_Pk_c (fun _ _ => rfl) (fun i hi => ?_) hP, hc⟩)
    have a1 := h1 i (by omega)
    have a2 := h1 (96 + i) (by omega)
    rw [Nat.mul_zero, Nat.zero_add] at a1 a2
    exact ⟨(hH i hi).1.trans a1.symm, (hH i hi).2.1.trans a2.symm⟩
theorem i_vc_lengthOf {k : Nat} {u : SX} {v : SY} (I : i_Rel k u v) (hk : k + 5 ≤ 2560) (v1 : Int32) : wpX_lengthOf (fun r u' => wpY_lengthOf (fun r' => r' = r ∧ i_Rel (k + 5) u' v) v v1) u v1 := by
  obtain ⟨f_length, f_size, f_low, f_outBits, f_blocks, f_source, f_check, a_left, a_right, a_bytes, a_used, a_turnedBit, a_blockLeft, a_blockRight, a_otherLeft, a_otherRight, a_row, a_residue, a_weight, a_out, a_starts⟩ := u
  obtain ⟨a_lengths, a_samples, a_states⟩ := v
  have I2 := I
  obtain ⟨⟨n, hn, rfl, hl, hH⟩, hby, hS⟩ := I2
  rcases sa_mom v1 (n := 4) (by omega) with z | ⟨s, hs, rfl⟩
  · unfold wpX_lengthOf wpY_lengthOf
    dsimp only
    exact sa_trouble_b z (br_f (by decide) (sa_badSlot_b z (br_f (by decide) ⟨rfl, I⟩)))
  · unfold wpX_lengthOf wpY_lengthOf
    dsimp only
    refine sa_trouble s hs (hS s hs) (fun h => br_f (by decide) (sa_badSlot_g s hs (br_t rfl (sa_refused0 s hs h (br_f (by decide) (sa_refused0 s hs h ⟨rfl, I⟩)))))) (fun c us m ls h hm hP => br_t (by decide) ?_) (fun c h => br_f (by decide) (sa_badSlot_g s hs (br_t rfl (sa_refused2 s hs h (br_f (by decide) (sa_refused2 s hs h ⟨rfl, I⟩))))))
    refine sa_momentsOf s m hs hP.2.1 (sa_badSlot_g s hs (br_t rfl (sa_refused1 s hs h (br_t rfl ?_))))
    rw [nI_1, nI_clamp (by omega)]
    exact ⟨vp_in_nI (by omega) (by omega), hm, I⟩
theorem i_vc_drop {k : Nat} {u : SX} {v : SY} (I : i_Rel k u v) (hk : k + 5 ≤ 2560) (v1 : Int32) : wpX_drop (fun r u' => wpY_drop (fun r' v' => r' = r ∧ i_Rel (k + 5) u' v') v v1) u v1 := by
  obtain ⟨f_length, f_size, f_low, f_outBits, f_blocks, f_source, f_check, a_left, a_right, a_bytes, a_used, a_turnedBit, a_blockLeft, a_blockRight, a_otherLeft, a_otherRight, a_row, a_residue, a_weight, a_out, a_starts⟩ := u
  obtain ⟨a_lengths, a_samples, a_states⟩ := v
  have I2 := I
  obtain ⟨⟨n, hn, rfl, hl, hH⟩, hby, hS⟩ := I2
  unfold wpX_drop
  dsimp only
  refine sa_isSlot (fun s hs e => br_f (by decide) ?_) (fun z => br_t rfl ?_)
  rotate_left
  · unfold wpY_drop
    dsimp only
    exact sa_badSlot_b z (br_f (by decide) ⟨rfl, I⟩)
  subst e
  have hv : vp_in (nI s) 4 := vp_in_nI hs (by omega)
  have hY0 : ∀ (post : Int32 → SY → Prop), a_states s = 0 → post (-5002) (a_lengths, a_samples, a_states) → wpY_drop post (a_lengths, a_samples, a_states) (nI s) := fun post h H => by
    unfold wpY_drop
    dsimp only
    refine sa_badSlot_g s hs (br_t rfl ⟨hv, ?_⟩)
    rw [nI_clamp (by omega)]
    exact br_t h H
  have hY : ∀ (post : Int32 → SY → Prop) (x : Int32), (a_states s = 1 ∧ x = 0) ∨ (a_states s = 2 ∧ x = 1) → post x (a_lengths, a_samples, upd a_states s 0) → wpY_drop post (a_lengths, a_samples, a_states) (nI s) := fun post x h H => by
    unfold wpY_drop
    dsimp only
    refine sa_badSlot_g s hs (br_t rfl ⟨hv, ?_⟩)
    rw [nI_clamp (by omega)]
    rcases h with ⟨h, rfl⟩ | ⟨h, rfl⟩
    · refine br_f (by rw [h]; decide) ⟨hv, br_f (by rw [h]; decide) ⟨hv, nm_r (by rw [nI_clamp (by omega)]) H⟩⟩
    · refine br_f (by rw [h]; decide) ⟨hv, br_t h ⟨hv, nm_r (by rw [nI_clamp (by omega)]) H⟩⟩
  have hR : sa_RL (nI n) a_left a_right a_bytes (upd a_used s 0) a_turnedBit a_out a_lengths a_samples (upd a_states s 0) := by
    refine ⟨⟨n, hn, rfl, hl, hH⟩, hby, sa_SS_u s hS (fun _ _ _ _ => rfl) (fun r hr => pk_un hr) (fun _ _ => rfl) (fun r hr => pk_un hr) (fun _ _ => rfl) (fun _ _ _ _ => rfl) (Or.inl ⟨pk_us, pk_us⟩)⟩
  refine ⟨hv, ?_⟩
  rw [nI_clamp (by omega)]
  rcases sa_used0 (hS s hs) with ⟨u0, s0⟩ | ⟨u0, s0⟩
  · exact br_t u0 (hY0 _ s0 ⟨rfl, I⟩)
  · refine br_f u0 (sa_whole s hs (hS s hs) s0 (fun c us m ls h1 _ _ h4 h5 _ => br_f (by decide) ⟨hv, nm_r (e' := upd a_used s 0) (by rw [nI_clamp (by omega)]) (hY _ 0 (Or.inl ⟨h1, rfl⟩) ⟨rfl, hR⟩)⟩) (fun c h => br_t rfl ⟨hv, nm_r (e' := upd a_used s 0) (by rw [nI_clamp (by omega)]) (hY _ 1 (Or.inr ⟨h, rfl⟩) ⟨rfl, hR⟩)⟩))
theorem sa_modI (x : Int32) {A : Nat} (hA : 0 < A) (hA2 : A < 2 ^ 20) : (0 ≤ x - x / nI A * nI A ∧ ∃ t, t < A ∧ x - x / nI A * nI A + 0 = nI t) ∨ (¬ 0 ≤ x - x / nI A * nI A ∧ ∃ t, t < A ∧ x - x / nI A * nI A + nI A = nI t) := by
  have hr := rem_toInt x (nI A)
  rw [nI_toInt (by omega)] at hr
  have h1 := Int.lt_tmod_of_pos x.toInt (b := (A : Int)) (by omega)
  have h2 := Int.tmod_lt_of_pos x.toInt (b := (A : Int)) (by omega)
  rw [← hr] at h1 h2
  generalize x - x / nI A * nI A = r at *
  by_cases h : 0 ≤ r
  · refine Or.inl ⟨h, r.toInt.toNat, ?_, ?_⟩
    · rw [sa_foldI] at h; omega
    · rw [sa_foldI] at h
      rw [Int32.add_zero]
      apply Int32.toInt_inj.mp
      rw [nI_toInt (by omega)]
      omega
  · refine Or.inr ⟨h, (r.toInt + A).toNat, ?_, ?_⟩
    · rw [sa_foldI] at h; omega
    · rw [sa_foldI] at h
      apply Int32.toInt_inj.mp
      rw [nI_toInt (by omega), Int32.toInt_add, nI_toInt (by omega), Int.bmod_eq_of_le (by omega) (by omega)]
      omega
theorem i_vc_damage {k : Nat} {u : SX} {v : SY} (I : i_Rel k u v) (hk : k + 5 ≤ 2560) (v1 : Int32) (v2 : Int32) : wpX_damage (fun r u' => wpY_damage (fun r' v' => r' = r ∧ i_Rel (k + 5) u' v') v v1 v2) u v1 v2 := by
  obtain ⟨f_length, f_size, f_low, f_outBits, f_blocks, f_source, f_check, a_left, a_right, a_bytes, a_used, a_turnedBit, a_blockLeft, a_blockRight, a_otherLeft, a_otherRight, a_row, a_residue, a_weight, a_out, a_starts⟩ := u
  obtain ⟨a_lengths, a_samples, a_states⟩ := v
  have I2 := I
  obtain ⟨⟨n, hn, rfl, hl, hH⟩, hby, hS⟩ := I2
  unfold wpX_damage wpY_damage
  dsimp only
  refine sa_isSlot (fun s hs e => br_f (by decide) ?_) (fun z => br_t rfl (sa_badSlot_b z (br_f (by decide) ⟨rfl, I⟩)))
  subst e
  have hv : vp_in (nI s) 4 := vp_in_nI hs (by omega)
  refine ⟨hv, ?_⟩
  rw [nI_clamp (show s < 2 ^ 31 by omega)]
  rcases sa_used0 (hS s hs) with ⟨u0, s0⟩ | ⟨u0, s0⟩
  · exact br_t u0 (sa_badSlot_g s hs (br_t rfl ⟨hv, br_t s0 ⟨rfl, I⟩⟩))
  · refine br_f u0 (sa_whole s hs (hS s hs) s0 (fun c us m ls h1 h2 h3 h4 h5 h6 => br_f (by decide) ⟨hv, nm_r (e' := nI (8 * us)) ?_ ?_⟩) (fun c h => br_t rfl (sa_badSlot_g s hs (br_t rfl ⟨hv, br_f s0 ⟨hv, br_t h ⟨rfl, I⟩⟩⟩))))
    · dsimp only
      rw [h2]
      exact pk_mul 8 us
    · have hus := sa_Pk_us h5
      refine ⟨nI_ne0 (by omega) (by omega), nm_e ?_⟩
      have key : ∀ t, t < 8 * us → ∀ (P : SX → Prop), (∀ c bs, sa_lc bs s = sa_tb (sa_lc a_bytes s) t → (∀ r, r ≠ s → ∀ j, j < 420 → sa_lc bs r j = sa_lc a_bytes r j) → P (nI n, f_size, f_low, f_outBits, f_blocks, f_source, c, a_left, a_right, bs, a_used, a_turnedBit, a_blockLeft, a_blockRight, a_otherLeft, a_otherRight, a_row, a_residue, a_weight, a_out, a_starts)) → wpX_turnBit P (nI n, f_size, f_low, f_outBits, f_blocks, f_source, c, a_left, a_right, a_bytes, a_used, a_turnedBit, a_blockLeft, a_blockRight, a_otherLeft, a_otherRight, a_row, a_residue, a_weight, a_out, a_starts) (nI s) (nI t) := by
        intro t ht P H
        refine sa_turnBit s t hs (by omega) (H c _ (sa_lc_tb a_bytes s t) (fun r hr => sa_lc_ne (fun e => hr e.symm) (by omega)))
      have fin : ∀ (c : Int32) (bs : Nat → Int32) (t : Nat), t < 8 * us → sa_lc bs s = sa_tb (sa_lc a_bytes s) t → (∀ r, r ≠ s → ∀ j, j < 420 → sa_lc bs r j = sa_lc a_bytes r j) → sa_RL (nI n) a_left a_right bs a_used (upd a_turnedBit s (nI t)) a_out a_lengths a_samples (upd a_states s 2) := by
        intro c bs t ht e1 e2
        refine ⟨⟨n, hn, rfl, hl, hH⟩, hby, sa_SS_u s hS e2 (fun _ _ => rfl) (fun r hr => pk_un hr) (fun r hr => pk_un hr) (fun _ _ => rfl) (fun _ _ _ _ => rfl) ?_⟩
        rw [pk_us, pk_us, e1]
        refine Or.inr (Or.inr ⟨rfl, us, m, ls, t, h2, rfl, ht, h4, ?_, ?_⟩)
        · rw [sa_tb_tb]; exact h5
        · rw [sa_tb_tb]; exact h6
      rcases sa_modI v2 (A := 8 * us) (by omega) (by omega) with ⟨g, t, ht, et⟩ | ⟨g, t, ht, et⟩
      · refine br_t g (nm_r et ?_)
        refine key t ht _ (fun c' bs e1 e2 => ?_)
        refine ⟨hv, nm_r (e' := upd a_turnedBit s (nI t)) (by rw [nI_clamp (by omega)]) ?_⟩
        exact sa_badSlot_g s hs (br_t rfl ⟨hv, br_f s0 ⟨hv, br_f (by rw [h1]; decide) ⟨hv, nm_e ⟨rfl, fin c' bs t ht e1 e2⟩⟩⟩⟩)
      · refine br_f g (nm_r et ?_)
        refine key t ht _ (fun c' bs e1 e2 => ?_)
        refine ⟨hv, nm_r (e' := upd a_turnedBit s (nI t)) (by rw [nI_clamp (by omega)]) ?_⟩
        exact sa_badSlot_g s hs (br_t rfl ⟨hv, br_f s0 ⟨hv, br_f (by rw [h1]; decide) ⟨hv, nm_e ⟨rfl, fin c' bs t ht e1 e2⟩⟩⟩⟩)
theorem i_vc_repair {k : Nat} {u : SX} {v : SY} (I : i_Rel k u v) (hk : k + 5 ≤ 2560) (v1 : Int32) : wpX_repair (fun r u' => wpY_repair (fun r' v' => r' = r ∧ i_Rel (k + 5) u' v') v v1) u v1 := by
  obtain ⟨f_length, f_size, f_low, f_outBits, f_blocks, f_source, f_check, a_left, a_right, a_bytes, a_used, a_turnedBit, a_blockLeft, a_blockRight, a_otherLeft, a_otherRight, a_row, a_residue, a_weight, a_out, a_starts⟩ := u
  obtain ⟨a_lengths, a_samples, a_states⟩ := v
  have I2 := I
  obtain ⟨⟨n, hn, rfl, hl, hH⟩, hby, hS⟩ := I2
  unfold wpX_repair wpY_repair
  dsimp only
  refine sa_isSlot (fun s hs e => br_f (by decide) ?_) (fun z => br_t rfl (sa_badSlot_b z (br_f (by decide) ⟨rfl, I⟩)))
  subst e
  have hv : vp_in (nI s) 4 := vp_in_nI hs (by omega)
  refine ⟨hv, ?_⟩
  rw [nI_clamp (show s < 2 ^ 31 by omega)]
  rcases hS s hs with ⟨h1, h2⟩ | ⟨h1, us, m, ls, h2, h3, h4, h5, h6⟩ | ⟨h1, us, m, ls, t, h2, h3, ht, h4, h5, h6⟩
  · exact br_t h1 (sa_badSlot_g s hs (br_t rfl ⟨hv, br_f (by rw [h2]; decide) ⟨rfl, I⟩⟩))
  · have hus := sa_Pk_us h5
    refine br_f (by rw [h2]; exact sa_us_ne (by omega) (by omega)) ⟨hv, br_f (by rw [h3]; decide) ?_⟩
    exact sa_badSlot_g s hs (br_t rfl ⟨hv, br_f (by rw [h1]; decide) ⟨rfl, I⟩⟩)
  · have hus := sa_Pk_us h5
    refine br_f (by rw [h2]; exact sa_us_ne (by omega) (by omega)) ⟨hv, br_t (by rw [h3]; exact nI_pos' (by omega)) ⟨hv, ?_⟩⟩
    rw [h3]
    refine sa_turnBit s t hs (by omega) ?_
    dsimp only
    refine ⟨hv, nm_e ?_⟩
    refine sa_badSlot_g s hs (br_t rfl ⟨hv, br_t (by rw [h1]; decide) ⟨hv, nm_e ⟨rfl, ?_⟩⟩⟩)
    refine ⟨⟨n, hn, rfl, hl, hH⟩, hby, sa_SS_u s hS (fun r hr => sa_lc_ne (fun e => hr e.symm) (by omega)) (fun _ _ => rfl) (fun r hr => pk_un hr) (fun r hr => pk_un hr) (fun _ _ => rfl) (fun _ _ _ _ => rfl) ?_⟩
    rw [pk_us, pk_us, sa_lc_tb]
    exact Or.inr (Or.inl ⟨rfl, us, m, ls, h2, rfl, h4, h5, h6⟩)
end
section
/-! load, excerpt, peek, peak -/
/-- how many of the moments f .. t - 1 lie below p -/
def sa_cn (f t p : Nat) : Nat := if p ≤ f then 0 else if p ≤ t then p - f else t - f
theorem sa_cn_in {f t p : Nat} (h1 : f ≤ p) (h2 : p < t) : sa_cn f t (p + 1) = sa_cn f t p + 1 ∧ f + sa_cn f t p = p := by
  unfold sa_cn
  rw [if_neg (by omega), if_pos (by omega)]
  by_cases e : p ≤ f
  · rw [if_pos e]; omega
  · rw [if_neg e, if_pos (by omega)]; omega
theorem sa_cn_lo {f t p : Nat} (h1 : p < f) : sa_cn f t (p + 1) = sa_cn f t p := by
  unfold sa_cn
  rw [if_pos (by omega), if_pos (by omega)]
theorem sa_cn_hi {f t p : Nat} (hft : f ≤ t) (h1 : t ≤ p) : sa_cn f t (p + 1) = t - f ∧ sa_cn f t p = t - f := by
  unfold sa_cn
  rw [if_neg (by omega)]
  by_cases e : p ≤ f
  · rw [if_pos e]
    by_cases e2 : p + 1 ≤ t
    · rw [if_pos e2]; omega
    · rw [if_neg e2]; omega
  · rw [if_neg e]
    by_cases e2 : p ≤ t
    · rw [if_pos e2]
      by_cases e3 : p + 1 ≤ t
      · rw [if_pos e3]; omega
      · rw [if_neg e3]; omega
    · rw [if_neg e2, if_neg (by omega)]; omega
section
variable {f_length f_size f_low f_outBits f_blocks f_source f_check : Int32} {a_left a_right a_bytes a_used a_turnedBit a_blockLeft a_blockRight a_otherLeft a_otherRight a_row a_residue a_weight a_out a_starts : Nat → Int32} {a_lengths a_samples a_states : Nat → Int32}
theorem sa_bring30 {post : SX → Prop}
    {J : Int32 → Int32 → Int32 → Int32 → Int32 → Int32 → Int32 → Int32 → (Nat → Int32) → (Nat → Int32) → (Nat → Int32) → (Nat → Int32) → (Nat → Int32) → (Nat → Int32) → (Nat → Int32) → (Nat → Int32) → (Nat → Int32) → (Nat → Int32) → (Nat → Int32) → (Nat → Int32) → (Nat → Int32) → (Nat → Int32) → Prop}
    {x1 : Int32} (f t b sz : Nat) (L R : Nat → Int32) (hft : f ≤ t) (ht : t ≤ 96) (hb : b < 6) (hz : sz ≤ 16) (hbl : ∀ j, j < sz → a_blockLeft j = L (16 * b + j) ∧ a_blockRight j = R (16 * b + j))
    (hsm : ∀ j, j < sz → sa_sm (L (16 * b + j)) ∧ sa_sm (R (16 * b + j)))
    (H : ∀ lf rt, (∀ j, j < sa_cn f t (16 * b + sz) → lf j = L (f + j) ∧ rt j = R (f + j)) → J (nI (b + 1)) (nI (sa_cn f t (16 * b + sz))) (nI sz) f_low f_outBits f_blocks f_source f_check lf rt a_bytes a_used a_turnedBit a_blockLeft a_blockRight a_otherLeft a_otherRight a_row a_residue a_weight a_out a_starts) :
    ∀ (d i m : Nat) (lf rt : Nat → Int32), i + d = sz → d < m → (∀ j, j < sa_cn f t (16 * b + i) → lf j = L (f + j) ∧ rt j = R (f + j)) →
    wX_bring_30 post J x1 (nI f) (nI t) (nI b) m (nI i) (nI (sa_cn f t (16 * b + i))) (nI sz) f_low f_outBits f_blocks f_source f_check lf rt a_bytes a_used a_turnedBit a_blockLeft a_blockRight a_otherLeft a_otherRight a_row a_residue a_weight a_out a_starts := by
  intro d
  induction d with
  | zero =>
    intro i m lf rt hi hm h
    obtain ⟨m, rfl⟩ : ∃ q, m = q + 1 := ⟨m - 1, by omega⟩
    obtain rfl : i = sz := by omega
    exact br_t (Int32.le_refl _) (nm_r (nI_1 b) (H lf rt h))
  | succ d ih =>
    intro i m lf rt hi hm h
    obtain ⟨m, rfl⟩ : ∃ q, m = q + 1 := ⟨m - 1, by omega⟩
    have e : nI b * 16 + nI i = nI (16 * b + i) := by
      rw [show nI b * 16 = nI (b * 16) from pk_mul b 16, nI_add]
      exact congrArg nI (by omega)
    have ih' := ih (i + 1) m
    rw [← Nat.add_assoc] at ih'
    refine br_f (nI_ge (by omega) (by omega)) (nm_r e ?_)
    refine pk_lt (16 * b + i) f (fun h1 => ?_) (fun h1 => ?_)
    · rw [sa_cn_lo h1] at ih'
      exact nm_r (nI_1 i) (ih' lf rt (by omega) (by omega) h)
    · refine pk_le t (16 * b + i) (fun h2 => ?_) (fun h2 => ?_)
      · obtain ⟨c1, c2⟩ := sa_cn_hi hft h2
        rw [c1, ← c2] at ih'
        exact nm_r (nI_1 i) (ih' lf rt (by omega) (by omega) h)
      · obtain ⟨c1, c2⟩ := sa_cn_in h1 h2
        rw [c1] at ih'
        refine ⟨vp_in_nI (by omega) (by omega), vp_in_nI (by omega) (by omega), ?_⟩
        refine sa_add (sa_cn f t (16 * b + i)) (by omega) (nm_r (nI_1 i) (ih' _ _ (by omega) (by omega) (fun j hj => ?_)))
        rw [nI_clamp (by omega)]
        by_cases ej : j = sa_cn f t (16 * b + i)
        · rw [ej, pk_us, pk_us, c2, (hbl i (by omega)).1, (hbl i (by omega)).2]
          exact ⟨sa_wr_id (hsm i (by omega)).1, sa_wr_id (hsm i (by omega)).2⟩
        · rw [pk_un ej, pk_un ej]
          exact h j (by omega)
theorem sa_bring11 {post : SX → Prop} (s f t n us : Nat) (L R : Nat → Int32) (ls : Nat → List Bool) (hs : s < 4) (hft : f ≤ t) (htn : t ≤ n) (hP : sa_Pk (sa_lc a_bytes s) us n L R ls)
    (H : ∀ (size src : Int32) (lf rt bl br ro wt : Nat → Int32), (∀ j, j < t - f → lf j = L (f + j) ∧ rt j = R (f + j)) → post (nI (t - f), size, f_low, f_outBits, f_blocks, src, f_check, lf, rt, a_bytes, a_used, a_turnedBit, bl, br, a_otherLeft, a_otherRight, ro, a_residue, wt, a_out, a_starts)) :
    ∀ (d b m : Nat) (size src : Int32) (lf rt bl br ro wt : Nat → Int32), b + d = 6 → d < m → (t ≤ 16 * b → sa_cn f t (16 * b) = t - f) → (∀ j, j < sa_cn f t (16 * b) → lf j = L (f + j) ∧ rt j = R (f + j)) →
    wX_bring_11 post (nI s) (nI f) (nI t) m (nI b) (nI (sa_cn f t (16 * b))) size f_low f_outBits f_blocks src f_check lf rt a_bytes a_used a_turnedBit bl br a_otherLeft a_otherRight ro a_residue wt a_out a_starts := by
  have hn := hP.1
  intro d
  induction d with
  | zero =>
    intro b m size src lf rt bl br ro wt hb hm hc h
    obtain ⟨m, rfl⟩ : ∃ q, m = q + 1 := ⟨m - 1, by omega⟩
    obtain rfl : b = 6 := by omega
    have hc' := hc (by omega)
    rw [hc'] at h ⊢
    exact br_t (nI_le (b := 96) (by omega) (by omega)) (H _ _ _ _ _ _ _ _ h)
  | succ d ih =>
    intro b m size src lf rt bl br ro wt hb hm hc h
    obtain ⟨m, rfl⟩ : ∃ q, m = q + 1 := ⟨m - 1, by omega⟩
    have e : nI b * 16 = nI (16 * b) := by
      rw [show nI b * 16 = nI (b * 16) from pk_mul b 16]
      exact congrArg nI (by omega)
    refine br_c (fun g => ?_) (fun g => ?_)
    · rw [e, nI_leI (by omega) (by omega)] at g
      have hc' := hc g
      rw [hc'] at h ⊢
      exact H _ _ _ _ _ _ _ _ h
    · rw [e, nI_leI (by omega) (by omega)] at g
      have hbn : 16 * b < n := by omega
      obtain ⟨z1, z2, z3, z4⟩ := sa_sz_le hbn
      refine sa_readBlock s b n us L R ls hs hbn rfl hP (fun src' bl' br' ro' wt' hbl => ?_)
      dsimp only
      refine ⟨17, ?_⟩
      have hz : sa_cn f t (16 * b + sa_sz n b) = sa_cn f t (16 * (b + 1)) := by
        by_cases hle : t ≤ 16 * b + sa_sz n b
        · rw [(sa_cn_hi hft hle).2, (sa_cn_hi hft (show t ≤ 16 * (b + 1) by omega)).2]
        · have : sa_sz n b = 16 := by
            by_cases h16 : 16 ≤ n - 16 * b
            · exact if_pos h16
            · have e2 : sa_sz n b = n - 16 * b := if_neg h16
              omega
          rw [this]
          exact congrArg _ (by omega)
      refine sa_bring30 f t b (sa_sz n b) L R hft (by omega) (by omega) z2 hbl (fun j hj => hP.2.2.2.2.2.2.2 _ (by omega)) (fun lf' rt' h' => ?_) (sa_sz n b) 0 17 lf rt (by omega) (by omega) h
      rw [hz] at h' ⊢
      exact ih (b + 1) m _ _ lf' rt' _ _ _ _ (by omega) (by omega) (fun g' => (sa_cn_hi hft g').2) h'
theorem sa_bring {post : SX → Prop} {x y : Int32} (s f t n us : Nat) (L R : Nat → Int32) (ls : Nat → List Bool) (hs : s < 4) (hft : f ≤ t) (htn : t ≤ n) (hx : x = nI f) (hy : y = nI t) (hP : sa_Pk (sa_lc a_bytes s) us n L R ls)
    (H : ∀ (size src : Int32) (lf rt bl br ro wt : Nat → Int32), (∀ j, j < t - f → lf j = L (f + j) ∧ rt j = R (f + j)) → post (nI (t - f), size, f_low, f_outBits, f_blocks, src, f_check, lf, rt, a_bytes, a_used, a_turnedBit, bl, br, a_otherLeft, a_otherRight, ro, a_residue, wt, a_out, a_starts)) :
    wpX_bring post (f_length, f_size, f_low, f_outBits, f_blocks, f_source, f_check, a_left, a_right, a_bytes, a_used, a_turnedBit, a_blockLeft, a_blockRight, a_otherLeft, a_otherRight, a_row, a_residue, a_weight, a_out, a_starts) (nI s) x y := by
  subst hx hy
  have hn := hP.1
  have hc : sa_cn f t (16 * (f / 16)) = 0 := by
    unfold sa_cn
    rw [if_pos (by omega)]
  refine ⟨by decide, nm_r (e' := nI (f / 16)) (pk_div (d := 16) (by omega) (by omega) (by omega)) ⟨7, ?_⟩⟩
  have h := sa_bring11 (f_low := f_low) (f_outBits := f_outBits) (f_blocks := f_blocks) (f_check := f_check) (a_bytes := a_bytes) (a_used := a_used) (a_turnedBit := a_turnedBit) (a_otherLeft := a_otherLeft) (a_otherRight := a_otherRight) (a_residue := a_residue) (a_out := a_out) (a_starts := a_starts) s f t n us L R ls hs hft htn hP H (6 - f / 16) (f / 16) 7 f_size f_source a_left a_right a_blockLeft a_blockRight a_row a_weight (by omega) (by omega) (fun g => (sa_cn_hi hft g).2) (fun j hj => absurd hj (by rw [hc]; omega))
  rw [hc] at h
  exact h
end
theorem i_vc_load {k : Nat} {u : SX} {v : SY} (I : i_Rel k u v) (hk : k + 5 ≤ 2560) (v1 : Int32) : wpX_load (fun r u' => wpY_load (fun r' v' => r' = r ∧ i_Rel (k + 5) u' v') v v1) u v1 := by
  obtain ⟨f_length, f_size, f_low, f_outBits, f_blocks, f_source, f_check, a_left, a_right, a_bytes, a_used, a_turnedBit, a_blockLeft, a_blockRight, a_otherLeft, a_otherRight, a_row, a_residue, a_weight, a_out, a_starts⟩ := u
  obtain ⟨a_lengths, a_samples, a_states⟩ := v
  have I2 := I
  obtain ⟨⟨n, hn, rfl, hl, hH⟩, hby, hS⟩ := I2
  unfold wpX_load wpY_load
  dsimp only
  rcases sa_mom v1 (n := 4) (by omega) with z | ⟨s, hs, rfl⟩
  · exact sa_trouble_b z (br_f (by decide) (sa_badSlot_b z (br_f (by decide) ⟨rfl, I⟩)))
  · refine sa_trouble s hs (hS s hs) (fun h => br_f (by decide) (sa_badSlot_g s hs (br_t rfl (sa_refused0 s hs h (br_f (by decide) (sa_refused0 s hs h ⟨rfl, I⟩)))))) (fun c us m ls h hm hP => br_t (by decide) ?_) (fun c h => br_f (by decide) (sa_badSlot_g s hs (br_t rfl (sa_refused2 s hs h (br_f (by decide) (sa_refused2 s hs h ⟨rfl, I⟩))))))
    dsimp only
    refine sa_momentsOf s m hs hP.2.1 ?_
    refine sa_bring s 0 m m us _ _ ls hs (by omega) (Nat.le_refl _) rfl rfl hP (fun size src lf rt bl br ro wt hh => ?_)
    dsimp only
    refine sa_badSlot_g s hs (br_t rfl (sa_refused1 s hs h (br_t rfl (sa_copy (s + 1) 0 (by omega) (by omega) (by omega) (nI_1 s) rfl (fun sm h1 h2 => ?_)))))
    dsimp only
    rw [Nat.sub_zero] at hh
    refine ⟨by rw [pk_us]; exact hm, ⟨m, hP.1, rfl, by rw [pk_us]; exact hm, fun i hi => ?_⟩, hby, sa_SS_h hS (fun j hj => h2 j (by omega)) (fun q => pk_un (Nat.succ_ne_zero q))⟩
    have a1 := h1 i (by have := hP.1; omega)
    have a2 := h1 (96 + i) (by have := hP.1; omega)
    have a3 := hh i hi
    have a4 := hP.2.2.2.2.2.2.2 i hi
    rw [Nat.mul_zero, Nat.zero_add] at a1 a2
    rw [Nat.zero_add] at a3
    rw [a1, a2, a3.1, a3.2]
    exact ⟨rfl, rfl, a4⟩
theorem i_vc_excerpt {k : Nat} {u : SX} {v : SY} (I : i_Rel k u v) (hk : k + 5 ≤ 2560) (v1 : Int32) (v2 : Int32) (v3 : Int32) : wpX_excerpt (fun r u' => wpY_excerpt (fun r' v' => r' = r ∧ i_Rel (k + 5) u' v') v v1 v2 v3) u v1 v2 v3 := by
  obtain ⟨f_length, f_size, f_low, f_outBits, f_blocks, f_source, f_check, a_left, a_right, a_bytes, a_used, a_turnedBit, a_blockLeft, a_blockRight, a_otherLeft, a_otherRight, a_row, a_residue, a_weight, a_out, a_starts⟩ := u
  obtain ⟨a_lengths, a_samples, a_states⟩ := v
  have I2 := I
  obtain ⟨⟨n, hn, rfl, hl, hH⟩, hby, hS⟩ := I2
  unfold wpX_excerpt
  dsimp only
  rcases sa_mom v1 (n := 4) (by omega) with z | ⟨s, hs, rfl⟩
  · have hY : ∀ (post : Int32 → SY → Prop), post (-5001) (a_lengths, a_samples, a_states) → wpY_excerpt post (a_lengths, a_samples, a_states) v1 v2 v3 := fun post h => by
      unfold wpY_excerpt
      dsimp only
      exact sa_badSlot_b z (br_f (by decide) h)
    exact sa_trouble_b z (br_f (by decide) (hY _ ⟨rfl, I⟩))
  · have hY0 : ∀ (post : Int32 → SY → Prop), a_states s = 0 → post (-5002) (a_lengths, a_samples, a_states) → wpY_excerpt post (a_lengths, a_samples, a_states) (nI s) v2 v3 := fun post h H => by
      unfold wpY_excerpt
      dsimp only
      exact sa_badSlot_g s hs (br_t rfl (sa_refused0 s hs h (br_f (by decide) (sa_refused0 s hs h H))))
    have hY2 : ∀ (post : Int32 → SY → Prop), a_states s = 2 → post (-5003) (a_lengths, a_samples, a_states) → wpY_excerpt post (a_lengths, a_samples, a_states) (nI s) v2 v3 := fun post h H => by
      unfold wpY_excerpt
      dsimp only
      exact sa_badSlot_g s hs (br_t rfl (sa_refused2 s hs h (br_f (by decide) (sa_refused2 s hs h H))))
    refine sa_trouble s hs (hS s hs) (fun h => br_f (by decide) (hY0 _ h ⟨rfl, I⟩)) (fun c us m ls h hm hP => br_t (by decide) ?_) (fun c h => br_f (by decide) (hY2 _ h ⟨rfl, I⟩))
    dsimp only
    have hm96 := hP.1
    rcases sa_span v2 v3 hm96 with g | ⟨f, t, g1, g2, rfl, rfl⟩
    · have hYb : ∀ (post : Int32 → SY → Prop), post (-5001) (a_lengths, a_samples, a_states) → wpY_excerpt post (a_lengths, a_samples, a_states) (nI s) v2 v3 := fun post hA => by
        unfold wpY_excerpt
        dsimp only
        exact sa_badSlot_g s hs (br_t rfl (sa_refused1 s hs h (br_t rfl (sa_badSpan (s + 1) m (by omega) (nI_1 s) hm96 hm (fun f t h1 h2 e1 e2 => by subst e1 e2; exact (sa_span_n hm96 g h1 h2).elim) (fun _ => br_f (by decide) hA)))))
      refine br_c (fun _ => hYb _ ⟨rfl, I⟩) (fun c1 => sa_momentsOf s m hs hP.2.1 (br_c (fun _ => hYb _ ⟨rfl, I⟩) (fun c2 => br_c (fun c3 => ?_) (fun _ => hYb _ ⟨rfl, I⟩))))
      rcases g with g | g | g
      · exact absurd g c1
      · exact absurd g c2
      · exact absurd c3 g
    · refine br_f (nI_pos (by omega)) (sa_momentsOf s m hs hP.2.1 (br_f (nI_nlt g2 (by omega)) (br_t (nI_le g1 (by omega)) ?_)))
      refine sa_bring s f t m us _ _ ls hs g1 g2 rfl rfl hP (fun size src lf rt bl br ro wt hh => ?_)
      dsimp only
      unfold wpY_excerpt
      dsimp only
      refine sa_badSlot_g s hs (br_t rfl (sa_refused1 s hs h (br_t rfl (sa_badSpan (s + 1) m (by omega) (nI_1 s) hm96 hm (fun _ _ _ _ _ _ => br_t rfl (sa_copy (s + 1) 0 (by omega) (by omega) (by omega) (nI_1 s) rfl (fun sm h1 h2 => ?_))) (fun z => (sa_span_n hm96 z g1 g2).elim)))))
      dsimp only
      refine sa_keep f t g1 (by omega) (fun sm' k1 k2 => ?_)
      dsimp only
      refine ⟨rfl, ⟨t - f, by omega, rfl, pk_us, fun j hj => ?_⟩, hby, sa_SS_h hS (fun j hj => (k2 j hj).trans (h2 j (by omega))) (fun q => by rw [pk_un (Nat.succ_ne_zero q), pk_un (Nat.succ_ne_zero q)])⟩
      have a1 := h1 (f + j) (by omega)
      have a2 := h1 (96 + (f + j)) (by omega)
      have a3 := hh j hj
      have a4 := hP.2.2.2.2.2.2.2 (f + j) (by omega)
      rw [Nat.mul_zero, Nat.zero_add] at a1 a2
      rw [(k1 j hj).1, (k1 j hj).2, a1, a2, a3.1, a3.2]
      exact ⟨rfl, rfl, a4⟩
theorem i_vc_peek {k : Nat} {u : SX} {v : SY} (I : i_Rel k u v) (hk : k + 5 ≤ 2560) (v1 : Int32) (v2 : Int32) (v3 : Int32) : wpX_peek (fun r u' => wpY_peek (fun r' => r' = r ∧ i_Rel (k + 5) u' v) v v1 v2 v3) u v1 v2 v3 := by
  obtain ⟨f_length, f_size, f_low, f_outBits, f_blocks, f_source, f_check, a_left, a_right, a_bytes, a_used, a_turnedBit, a_blockLeft, a_blockRight, a_otherLeft, a_otherRight, a_row, a_residue, a_weight, a_out, a_starts⟩ := u
  obtain ⟨a_lengths, a_samples, a_states⟩ := v
  have I2 := I
  obtain ⟨⟨n, hn, rfl, hl, hH⟩, hby, hS⟩ := I2
  unfold wpX_peek
  dsimp only
  rcases sa_mom v1 (n := 4) (by omega) with z | ⟨s, hs, rfl⟩
  · have hY : ∀ (post : Int32 → Prop), post (-5001) → wpY_peek post (a_lengths, a_samples, a_states) v1 v2 v3 := fun post h => by
      unfold wpY_peek
      dsimp only
      exact sa_badSlot_b z (br_f (by decide) h)
    exact sa_isChannel (fun c hc e => br_f (by decide) (sa_trouble_b z (br_f (by decide) (hY _ ⟨rfl, I⟩)))) (fun z2 => br_t rfl (hY _ ⟨rfl, I⟩))
  · refine sa_isChannel (fun c hc e => br_f (by decide) ?_) (fun z2 => br_t rfl ?_)
    rotate_left
    · unfold wpY_peek
      dsimp only
      exact sa_badSlot_g s hs (br_t rfl (sa_badChannel (fun c hc e => (sa_chan_n z2 hc e).elim) (fun _ => br_f (by decide) ⟨rfl, I⟩)))
    subst e
    have hC : ∀ {post : Int32 → Prop}, post 0 → wpY_badChannel post (a_lengths, a_samples, a_states) (nI c) := fun h => sa_badChannel (fun _ _ _ => h) (fun z => (sa_chan_n z hc rfl).elim)
    have hY0 : ∀ (post : Int32 → Prop), a_states s = 0 → post (-5002) → wpY_peek post (a_lengths, a_samples, a_states) (nI s) (nI c) v3 := fun post h H => by
      unfold wpY_peek
      dsimp only
      exact sa_badSlot_g s hs (br_t rfl (hC (br_t rfl (sa_refused0 s hs h (br_f (by decide) (sa_refused0 s hs h H))))))
    have hY2 : ∀ (post : Int32 → Prop), a_states s = 2 → post (-5003) → wpY_peek post (a_lengths, a_samples, a_states) (nI s) (nI c) v3 := fun post h H => by
      unfold wpY_peek
      dsimp only
      exact sa_badSlot_g s hs (br_t rfl (hC (br_t rfl (sa_refused2 s hs h (br_f (by decide) (sa_refused2 s hs h H))))))
    refine sa_trouble s hs (hS s hs) (fun h => br_f (by decide) (hY0 _ h ⟨rfl, I⟩)) (fun ck us m ls h hm hP => br_t (by decide) ?_) (fun ck h => br_f (by decide) (hY2 _ h ⟨rfl, I⟩))
    dsimp only
    have hm96 := hP.1
    rcases sa_mom v3 hm96 with g | ⟨i, hi, rfl⟩
    · have hYb : ∀ (post : Int32 → Prop), post (-5001) → wpY_peek post (a_lengths, a_samples, a_states) (nI s) (nI c) v3 := fun post hA => by
        unfold wpY_peek
        dsimp only
        exact sa_badSlot_g s hs (br_t rfl (hC (br_t rfl (sa_refused1 s hs h (br_t rfl (sa_noMoment (s + 1) m (by omega) (nI_1 s) hm96 hm (fun i hi e => (sa_mom_n hm96 g hi e).elim) (fun _ => br_f (by decide) hA)))))))
      refine br_c (fun _ => hYb _ ⟨rfl, I⟩) (fun c1 => sa_momentsOf s m hs hP.2.1 (br_c (fun c2 => ?_) (fun _ => hYb _ ⟨rfl, I⟩)))
      rcases g with g | g
      · exact absurd g c1
      · rw [Int32.lt_iff_toInt_lt] at c2
        rw [Int32.le_iff_toInt_le] at g
        omega
    · have e16 : nI i / (16 : Int32) = nI (i / 16) := pk_div (d := 16) (by omega) (by omega) (by omega)
      have er : nI i - nI i / (16 : Int32) * 16 = nI (i % 16) := pk_rem (d := 16) (by omega) (by omega) (by omega)
      have hY : ∀ (post : Int32 → Prop), post (a_samples (192 * (s + 1) + 96 * c + i)) → wpY_peek post (a_lengths, a_samples, a_states) (nI s) (nI c) (nI i) := fun post H => by
        unfold wpY_peek
        dsimp only
        refine sa_badSlot_g s hs (br_t rfl (hC (br_t rfl (sa_refused1 s hs h (br_t rfl (sa_noMoment (s + 1) m (by omega) (nI_1 s) hm96 hm (fun _ _ _ => br_t rfl ?_) (fun z => (sa_mom_n hm96 z hi rfl).elim)))))))
        have e : (192 : Int32) * (nI s + 1) + 96 * nI c + nI i = nI (192 * (s + 1) + 96 * c + i) := by
          rw [nI_1, show (192 : Int32) * nI (s + 1) = nI (192 * (s + 1)) from pk_mul 192 _, show (96 : Int32) * nI c = nI (96 * c) from pk_mul 96 c, nI_add, nI_add]
        rw [e, nI_clamp (by omega)]
        exact ⟨vp_in_nI (by omega) (by omega), H⟩
      refine br_f (nI_pos (by omega)) (sa_momentsOf s m hs hP.2.1 (br_t (nI_lt hi (by omega)) ⟨by decide, ?_⟩))
      refine sa_readBlock s (i / 16) m us _ _ ls hs (by omega) e16 hP (fun src bl br ro wt hbl => ?_)
      dsimp only
      rw [er, nI_clamp (by omega)]
      have hin : i % 16 < sa_sz m (i / 16) := by unfold sa_sz; split <;> omega
      have hb := hbl (i % 16) hin
      rw [show 16 * (i / 16) + i % 16 = i from by omega] at hb
      refine pk_eq c 0 (fun e0 => ⟨by decide, vp_in_nI (by omega) (by omega), hY _ ⟨?_, I⟩⟩) (fun e0 => ⟨by decide, vp_in_nI (by omega) (by omega), hY _ ⟨?_, I⟩⟩)
      · subst e0
        rw [hb.1]
        rfl
      · obtain rfl : c = 1 := by omega
        rw [hb.2]
        exact congrArg a_samples (by omega)
end
section
/-! peak; two slots asked together; same -/
def sa_mx (m x : Int32) : Int32 := if 0 ≤ x then (if x ≤ m then m else x) else (if -x ≤ m then m else -x)
def sa_mo (V : Nat → Int32) : Nat → Int32
  | 0 => 0
  | p + 1 => sa_mx (sa_mo V p) (V p)
section
variable {f_length f_size f_low f_outBits f_blocks f_source f_check : Int32} {a_left a_right a_bytes a_used a_turnedBit a_blockLeft a_blockRight a_otherLeft a_otherRight a_row a_residue a_weight a_out a_starts : Nat → Int32} {a_lengths a_samples a_states : Nat → Int32}
theorem sa_peak82 {post : Int32 → SX → Prop} {J29 : Int32 → Int32 → Int32 → Int32 → Int32 → Int32 → Int32 → Int32 → Int32 → (Nat → Int32) → (Nat → Int32) → (Nat → Int32) → (Nat → Int32) → (Nat → Int32) → (Nat → Int32) → (Nat → Int32) → (Nat → Int32) → (Nat → Int32) → (Nat → Int32) → (Nat → Int32) → (Nat → Int32) → (Nat → Int32) → (Nat → Int32) → Prop}
    {J : Int32 → Int32 → Prop} {x1 x2 x4 x5 z : Int32} (i : Nat) (H : J (sa_mx x4 z) (nI (i + 1))) : wX_peak_82 post J29 J x1 x2 x4 x5 (nI i) z f_length f_size f_low f_outBits f_blocks f_source f_check a_left a_right a_bytes a_used a_turnedBit a_blockLeft a_blockRight a_otherLeft a_otherRight a_row a_residue a_weight a_out a_starts := by
  unfold sa_mx at H
  refine br_c (fun h => ?_) (fun h => ?_)
  · rw [if_pos h] at H
    refine br_c (fun h2 => ?_) (fun h2 => ?_)
    · rw [if_pos h2] at H; exact nm_r (nI_1 i) H
    · rw [if_neg h2] at H; exact nm_r (nI_1 i) H
  · rw [if_neg h] at H
    refine br_c (fun h2 => ?_) (fun h2 => ?_)
    · rw [if_pos h2] at H; exact nm_r (nI_1 i) H
    · rw [if_neg h2] at H; exact nm_r (nI_1 i) H
theorem sa_peak52 {post : Int32 → SX → Prop} {J29 : Int32 → Int32 → Int32 → Int32 → Int32 → Int32 → Int32 → Int32 → Int32 → (Nat → Int32) → (Nat → Int32) → (Nat → Int32) → (Nat → Int32) → (Nat → Int32) → (Nat → Int32) → (Nat → Int32) → (Nat → Int32) → (Nat → Int32) → (Nat → Int32) → (Nat → Int32) → (Nat → Int32) → (Nat → Int32) → (Nat → Int32) → Prop}
    {x1 : Int32} (c b sz : Nat) (V : Nat → Int32) (hc : c < 2) (hz : sz ≤ 16) (hV : ∀ j, j < sz → (c = 0 → a_blockLeft j = V (16 * b + j)) ∧ (c ≠ 0 → a_blockRight j = V (16 * b + j)))
    (H : J29 (sa_mo V (16 * b + sz)) (nI (b + 1)) f_length (nI sz) f_low f_outBits f_blocks f_source f_check a_left a_right a_bytes a_used a_turnedBit a_blockLeft a_blockRight a_otherLeft a_otherRight a_row a_residue a_weight a_out a_starts) :
    ∀ (d i m : Nat), i + d = sz → d < m → wX_peak_52 post J29 x1 (nI c) (nI b) f_length (nI sz) f_low f_outBits f_blocks f_source f_check a_left a_right a_bytes a_used a_turnedBit a_blockLeft a_blockRight a_otherLeft a_otherRight a_row a_residue a_weight a_out a_starts m (sa_mo V (16 * b + i)) (nI i) := by
  intro d
  induction d with
  | zero =>
    intro i m hi hm
    obtain ⟨m, rfl⟩ : ∃ q, m = q + 1 := ⟨m - 1, by omega⟩
    obtain rfl : i = sz := by omega
    exact br_t (Int32.le_refl _) (nm_r (nI_1 b) H)
  | succ d ih =>
    intro i m hi hm
    obtain ⟨m, rfl⟩ : ∃ q, m = q + 1 := ⟨m - 1, by omega⟩
    have K := ih (i + 1) m (by omega) (by omega)
    have hVi := hV i (by omega)
    refine br_f (nI_ge (by omega) (by omega)) (pk_eq c 0 (fun e => ⟨vp_in_nI (by omega) (by omega), ?_⟩) (fun e => ⟨vp_in_nI (by omega) (by omega), ?_⟩))
    · rw [nI_clamp (by omega), hVi.1 e]
      exact sa_peak82 i K
    · rw [nI_clamp (by omega), hVi.2 e]
      exact sa_peak82 i K
theorem sa_peak29 {post : Int32 → SX → Prop} (s c n us : Nat) (L R V : Nat → Int32) (ls : Nat → List Bool) (hs : s < 4) (hc : c < 2) (hP : sa_Pk (sa_lc a_bytes s) us n L R ls) (hV : ∀ i, i < n → (c = 0 → L i = V i) ∧ (c ≠ 0 → R i = V i))
    (H : ∀ (size src : Int32) (bl br ro wt : Nat → Int32), post (sa_mo V n) (f_length, size, f_low, f_outBits, f_blocks, src, f_check, a_left, a_right, a_bytes, a_used, a_turnedBit, bl, br, a_otherLeft, a_otherRight, ro, a_residue, wt, a_out, a_starts)) :
    ∀ (d b q m : Nat) (size src : Int32) (bl br ro wt : Nat → Int32), b + d = 6 → d < m → (q = 16 * b ∧ 16 * b ≤ n) ∨ (q = n ∧ n ≤ 16 * b) →
    wX_peak_29 post (nI s) (nI c) m (sa_mo V q) (nI b) f_length size f_low f_outBits f_blocks src f_check a_left a_right a_bytes a_used a_turnedBit bl br a_otherLeft a_otherRight ro a_residue wt a_out a_starts := by
  have hn := hP.1
  intro d
  induction d with
  | zero =>
    intro b q m size src bl br ro wt hb hm hq
    obtain ⟨m, rfl⟩ : ∃ w, m = w + 1 := ⟨m - 1, by omega⟩
    obtain rfl : b = 6 := by omega
    obtain rfl : q = n := by omega
    unfold wX_peak_29
    refine sa_momentsOf s q hs hP.2.1 (br_t (nI_le (b := 96) (by omega) (by omega)) (H _ _ _ _ _ _))
  | succ d ih =>
    intro b q m size src bl br ro wt hb hm hq
    obtain ⟨m, rfl⟩ : ∃ w, m = w + 1 := ⟨m - 1, by omega⟩
    have e : nI b * 16 = nI (16 * b) := by
      rw [show nI b * 16 = nI (b * 16) from pk_mul b 16]
      exact congrArg nI (by omega)
    unfold wX_peak_29
    refine sa_momentsOf s n hs hP.2.1 ?_
    rw [e]
    refine pk_le n (16 * b) (fun g => ?_) (fun g => ?_)
    · obtain rfl : q = n := by omega
      exact H _ _ _ _ _ _
    · obtain rfl : q = 16 * b := by omega
      obtain ⟨z1, z2, z3, z4⟩ := sa_sz_le g
      refine sa_readBlock s b n us L R ls hs g rfl hP (fun src' bl' br' ro' wt' hbl => ?_)
      dsimp only
      refine ⟨17, ?_⟩
      refine sa_peak52 c b (sa_sz n b) V hc z2 (fun j hj => ?_) ?_ (sa_sz n b) 0 17 (by omega) (by omega)
      · rw [(hbl j hj).1, (hbl j hj).2]
        exact hV _ (by omega)
      · refine ih (b + 1) _ m _ _ _ _ _ _ (by omega) (by omega) ?_
        by_cases h16 : 16 ≤ n - 16 * b
        · have e2 : sa_sz n b = 16 := if_pos h16
          omega
        · have e2 : sa_sz n b = n - 16 * b := if_neg h16
          omega
theorem sa_ypeak39 {post : Int32 → Prop} (s c n : Nat) (V : Nat → Int32) (hs : s < 4) (hc : c < 2) (hn : n ≤ 96) (hl : a_lengths (s + 1) = nI n) (hV : ∀ i, i < n → a_samples (192 * (s + 1) + 96 * c + i) = V i) (H : post (sa_mo V n)) :
    ∀ (d i m : Nat), i + d = n → d < m → wY_peak_39 post (nI s) (nI c) a_lengths a_samples a_states m (sa_mo V i) (nI i) := by
  intro d
  induction d with
  | zero =>
    intro i m hi hm
    obtain ⟨m, rfl⟩ : ∃ w, m = w + 1 := ⟨m - 1, by omega⟩
    obtain rfl : i = n := by omega
    unfold wY_peak_39
    rw [nI_1, nI_clamp (by omega), hl]
    exact ⟨vp_in_nI (by omega) (by omega), br_t (Int32.le_refl _) H⟩
  | succ d ih =>
    intro i m hi hm
    obtain ⟨m, rfl⟩ : ∃ w, m = w + 1 := ⟨m - 1, by omega⟩
    have K := ih (i + 1) m (by omega) (by omega)
    have e : (192 : Int32) * nI (s + 1) + 96 * nI c + nI i = nI (192 * (s + 1) + 96 * c + i) := by
      rw [show (192 : Int32) * nI (s + 1) = nI (192 * (s + 1)) from pk_mul 192 _, show (96 : Int32) * nI c = nI (96 * c) from pk_mul 96 c, nI_add, nI_add]
    unfold wY_peak_39
    rw [nI_1 s, nI_clamp (show s + 1 < 2 ^ 31 by omega), hl]
    refine ⟨vp_in_nI (by omega) (by omega), br_f (nI_ge (by omega) (by omega)) ?_⟩
    rw [e, nI_clamp (by omega), hV i (by omega)]
    refine ⟨vp_in_nI (by omega) (by omega), nm_e ?_⟩
    have K2 : wY_peak_39 post (nI s) (nI c) a_lengths a_samples a_states m (sa_mx (sa_mo V i) (V i)) (nI (i + 1)) := K
    unfold sa_mx at K2
    refine br_c (fun h => ?_) (fun h => ?_)
    · rw [if_pos h] at K2
      refine br_c (fun h2 => ?_) (fun h2 => ?_)
      · rw [if_pos h2] at K2; exact nm_r (nI_1 i) K2
      · rw [if_neg h2] at K2; exact nm_r (nI_1 i) K2
    · rw [if_neg h] at K2
      refine br_c (fun h2 => ?_) (fun h2 => ?_)
      · rw [if_pos h2] at K2; exact nm_r (nI_1 i) K2
      · rw [if_neg h2] at K2; exact nm_r (nI_1 i) K2
end
theorem i_vc_peak {k : Nat} {u : SX} {v : SY} (I : i_Rel k u v) (hk : k + 5 ≤ 2560) (v1 : Int32) (v2 : Int32) : wpX_peak (fun r u' => wpY_peak (fun r' => r' = r ∧ i_Rel (k + 5) u' v) v v1 v2) u v1 v2 := by
  obtain ⟨f_length, f_size, f_low, f_outBits, f_blocks, f_source, f_check, a_left, a_right, a_bytes, a_used, a_turnedBit, a_blockLeft, a_blockRight, a_otherLeft, a_otherRight, a_row, a_residue, a_weight, a_out, a_starts⟩ := u
  obtain ⟨a_lengths, a_samples, a_states⟩ := v
  have I2 := I
  obtain ⟨⟨n, hn, rfl, hl, hH⟩, hby, hS⟩ := I2
  unfold wpX_peak
  dsimp only
  rcases sa_mom v1 (n := 4) (by omega) with z | ⟨s, hs, rfl⟩
  · have hY : ∀ (post : Int32 → Prop), post (-5001) → wpY_peak post (a_lengths, a_samples, a_states) v1 v2 := fun post h => by
      unfold wpY_peak
      dsimp only
      exact sa_badSlot_b z (br_f (by decide) h)
    exact sa_isChannel (fun c hc e => br_f (by decide) (sa_trouble_b z (br_f (by decide) (hY _ ⟨rfl, I⟩)))) (fun z2 => br_t rfl (hY _ ⟨rfl, I⟩))
  · refine sa_isChannel (fun c hc e => br_f (by decide) ?_) (fun z2 => br_t rfl ?_)
    rotate_left
    · unfold wpY_peak
      dsimp only
      exact sa_badSlot_g s hs (br_t rfl (sa_badChannel (fun c hc e => (sa_chan_n z2 hc e).elim) (fun _ => br_f (by decide) ⟨rfl, I⟩)))
    subst e
    have hC : ∀ {post : Int32 → Prop}, post 0 → wpY_badChannel post (a_lengths, a_samples, a_states) (nI c) := fun h => sa_badChannel (fun _ _ _ => h) (fun z => (sa_chan_n z hc rfl).elim)
    have hY0 : ∀ (post : Int32 → Prop), a_states s = 0 → post (-5002) → wpY_peak post (a_lengths, a_samples, a_states) (nI s) (nI c) := fun post h H => by
      unfold wpY_peak
      dsimp only
      exact sa_badSlot_g s hs (br_t rfl (hC (br_t rfl (sa_refused0 s hs h (br_f (by decide) (sa_refused0 s hs h H))))))
    have hY2 : ∀ (post : Int32 → Prop), a_states s = 2 → post (-5003) → wpY_peak post (a_lengths, a_samples, a_states) (nI s) (nI c) := fun post h H => by
      unfold wpY_peak
      dsimp only
      exact sa_badSlot_g s hs (br_t rfl (hC (br_t rfl (sa_refused2 s hs h (br_f (by decide) (sa_refused2 s hs h H))))))
    refine sa_trouble s hs (hS s hs) (fun h => br_f (by decide) (hY0 _ h ⟨rfl, I⟩)) (fun ck us m ls h hm hP => br_t (by decide) ?_) (fun ck h => br_f (by decide) (hY2 _ h ⟨rfl, I⟩))
    dsimp only
    refine ⟨7, ?_⟩
    refine sa_peak29 s c m us _ _ (fun i => a_samples (192 * (s + 1) + 96 * c + i)) ls hs hc hP (fun i hi => ⟨fun e => ?_, fun e => ?_⟩) (fun size src bl br ro wt => ?_) 6 0 0 7 _ _ _ _ _ _ (by omega) (by omega) (by omega)
    · rw [e]; rfl
    · obtain rfl : c = 1 := by omega
      exact congrArg a_samples (by omega)
    · unfold wpY_peak
      dsimp only
      refine sa_badSlot_g s hs (br_t rfl (hC (br_t rfl (sa_refused1 s hs h (br_t rfl ⟨m + 1, ?_⟩)))))
      exact sa_ypeak39 s c m (fun i => a_samples (192 * (s + 1) + 96 * c + i)) hs hc hP.1 hm (fun i hi => rfl) ⟨rfl, I⟩ m 0 (m + 1) (by omega) (by omega)
end
section
/-! two slots asked together; same -/
section
variable {f_length f_size f_low f_outBits f_blocks f_source f_check : Int32} {a_left a_right a_bytes a_used a_turnedBit a_blockLeft a_blockRight a_otherLeft a_otherRight a_row a_residue a_weight a_out a_starts : Nat → Int32} {a_lengths a_samples a_states : Nat → Int32}
theorem sa_both (hS : sa_SS a_bytes a_used a_turnedBit a_lengths a_samples a_states) (x y : Int32) :
    (∃ r : Int32, ¬ 0 ≤ r ∧ ¬ r = 0 ∧ (∀ post : Int32 → SX → Prop, (∀ c, post r (f_length, f_size, f_low, f_outBits, f_blocks, f_source, c, a_left, a_right, a_bytes, a_used, a_turnedBit, a_blockLeft, a_blockRight, a_otherLeft, a_otherRight, a_row, a_residue, a_weight, a_out, a_starts)) → wpX_troubleOfBoth post (f_length, f_size, f_low, f_outBits, f_blocks, f_source, f_check, a_left, a_right, a_bytes, a_used, a_turnedBit, a_blockLeft, a_blockRight, a_otherLeft, a_otherRight, a_row, a_residue, a_weight, a_out, a_starts) x y) ∧ (∀ post : Int32 → Prop, post r → wpY_bothRefused post (a_lengths, a_samples, a_states) x y)) ∨
    (∃ s o us n ls us2 n2 ls2, s < 4 ∧ o < 4 ∧ x = nI s ∧ y = nI o ∧ a_states s = 1 ∧
      a_lengths (s + 1) = nI n ∧ sa_Pk (sa_lc a_bytes s) us n (fun i => a_samples (192 * (s + 1) + i)) (fun i => a_samples (192 * (s + 1) + (96 + i))) ls ∧
      a_lengths (o + 1) = nI n2 ∧ sa_Pk (sa_lc a_bytes o) us2 n2 (fun i => a_samples (192 * (o + 1) + i)) (fun i => a_samples (192 * (o + 1) + (96 + i))) ls2 ∧
      (∀ post : Int32 → SX → Prop, (∀ c, post 0 (f_length, f_size, f_low, f_outBits, f_blocks, f_source, c, a_left, a_right, a_bytes, a_used, a_turnedBit, a_blockLeft, a_blockRight, a_otherLeft, a_otherRight, a_row, a_residue, a_weight, a_out, a_starts)) → wpX_troubleOfBoth post (f_length, f_size, f_low, f_outBits, f_blocks, f_source, f_check, a_left, a_right, a_bytes, a_used, a_turnedBit, a_blockLeft, a_blockRight, a_otherLeft, a_otherRight, a_row, a_residue, a_weight, a_out, a_starts) x y) ∧ (∀ post : Int32 → Prop, post 0 → wpY_bothRefused post (a_lengths, a_samples, a_states) x y)) := by
  rcases sa_mom x (n := 4) (by omega) with zx | ⟨s, hs, rfl⟩
  · refine Or.inl ⟨-5001, by decide, by decide, fun post H => ?_, fun post H => ?_⟩
    · unfold wpX_troubleOfBoth
      dsimp only
      exact sa_isSlot (fun s hs e => (sa_slot_n zx hs e).elim) (fun _ => br_t rfl (H f_check))
    · unfold wpY_bothRefused
      dsimp only
      exact sa_badSlot_b zx (br_f (by decide) H)
  have hv : vp_in (nI s) 4 := vp_in_nI hs (by omega)
  have gX : ∀ {post : Int32 → Prop}, post 1 → wpX_isSlot post (nI s) := fun h => sa_isSlot (fun _ _ _ => h) (fun z => (sa_slot_n z hs rfl).elim)
  rcases sa_mom y (n := 4) (by omega) with zy | ⟨o, ho, rfl⟩
  · refine Or.inl ⟨-5001, by decide, by decide, fun post H => ?_, fun post H => ?_⟩
    · unfold wpX_troubleOfBoth
      dsimp only
      exact gX (br_f (by decide) (sa_isSlot (fun s hs e => (sa_slot_n zy hs e).elim) (fun _ => br_t rfl (H f_check))))
    · unfold wpY_bothRefused
      dsimp only
      exact sa_badSlot_g s hs (br_t rfl (sa_badSlot_b zy (br_f (by decide) H)))
  have hw : vp_in (nI o) 4 := vp_in_nI ho (by omega)
  have gY : ∀ {post : Int32 → Prop}, post 1 → wpX_isSlot post (nI o) := fun h => sa_isSlot (fun _ _ _ => h) (fun z => (sa_slot_n z ho rfl).elim)
  rcases sa_used0 (hS s hs) with ⟨u0, s0⟩ | ⟨u0, s0⟩
  · refine Or.inl ⟨-5002, by decide, by decide, fun post H => ?_, fun post H => ?_⟩
    · unfold wpX_troubleOfBoth
      dsimp only
      refine gX (br_f (by decide) (gY (br_f (by decide) ⟨hv, ?_⟩)))
      rw [nI_clamp (show s < 2 ^ 31 by omega)]
      exact br_t u0 (H f_check)
    · unfold wpY_bothRefused
      dsimp only
      refine sa_badSlot_g s hs (br_t rfl (sa_badSlot_g o ho (br_t rfl ⟨hv, ?_⟩)))
      rw [nI_clamp (show s < 2 ^ 31 by omega)]
      exact br_t s0 H
  rcases sa_used0 (hS o ho) with ⟨v0, t0⟩ | ⟨v0, t0⟩
  · refine Or.inl ⟨-5002, by decide, by decide, fun post H => ?_, fun post H => ?_⟩
    · unfold wpX_troubleOfBoth
      dsimp only
      refine gX (br_f (by decide) (gY (br_f (by decide) ⟨hv, ?_⟩)))
      rw [nI_clamp (show s < 2 ^ 31 by omega), nI_clamp (show o < 2 ^ 31 by omega)]
      exact br_f u0 ⟨hw, br_t v0 (H f_check)⟩
    · unfold wpY_bothRefused
      dsimp only
      refine sa_badSlot_g s hs (br_t rfl (sa_badSlot_g o ho (br_t rfl ⟨hv, ?_⟩)))
      rw [nI_clamp (show s < 2 ^ 31 by omega), nI_clamp (show o < 2 ^ 31 by omega)]
      exact br_f s0 ⟨hw, br_t t0 H⟩
  -- both are there
  have hX : ∀ post : Int32 → SX → Prop, wpX_isWhole (fun r_9 u => (r_9 = 0 → post (-5003) u) ∧ (¬ r_9 = 0 → wpX_isWhole (fun r_32 u => (r_32 = 0 → post (-5003) u) ∧ (¬ r_32 = 0 → post 0 u)) u (nI o))) (f_length, f_size, f_low, f_outBits, f_blocks, f_source, f_check, a_left, a_right, a_bytes, a_used, a_turnedBit, a_blockLeft, a_blockRight, a_otherLeft, a_otherRight, a_row, a_residue, a_weight, a_out, a_starts) (nI s) → wpX_troubleOfBoth post (f_length, f_size, f_low, f_outBits, f_blocks, f_source, f_check, a_left, a_right, a_bytes, a_used, a_turnedBit, a_blockLeft, a_blockRight, a_otherLeft, a_otherRight, a_row, a_residue, a_weight, a_out, a_starts) (nI s) (nI o) := by
    intro post H
    unfold wpX_troubleOfBoth
    dsimp only
    refine gX (br_f (by decide) (gY (br_f (by decide) ⟨hv, ?_⟩)))
    rw [nI_clamp (show s < 2 ^ 31 by omega), nI_clamp (show o < 2 ^ 31 by omega)]
    exact br_f u0 ⟨hw, br_f v0 H⟩
  have hYs : ∀ post : Int32 → Prop, ((a_states s = 2 → post (-5003)) ∧ (¬ a_states s = 2 → ((a_states o = 2 → post (-5003)) ∧ (¬ a_states o = 2 → post 0)))) → wpY_bothRefused post (a_lengths, a_samples, a_states) (nI s) (nI o) := by
    intro post H
    unfold wpY_bothRefused
    dsimp only
    refine sa_badSlot_g s hs (br_t rfl (sa_badSlot_g o ho (br_t rfl ⟨hv, ?_⟩)))
    rw [nI_clamp (show s < 2 ^ 31 by omega), nI_clamp (show o < 2 ^ 31 by omega)]
    exact br_f s0 ⟨hw, br_f t0 ⟨hv, br_c (fun h => H.1 h) (fun h => ⟨hw, H.2 h⟩)⟩⟩
  have hSs := hS s hs
  have hSo := hS o ho
  rcases hSs with ⟨h1, h2⟩ | ⟨h1, us, n, ls, h2, h3, h4, h5, h6⟩ | ⟨h1, us, n, ls, t, h2, h3, ht, h4, h5, h6⟩
  · exact absurd h2 s0
  · rcases hSo with ⟨k1, k2⟩ | ⟨k1, us2, n2, ls2, k2, k3, k4, k5, k6⟩ | ⟨k1, us2, n2, ls2, t2, k2, k3, kt, k4, k5, k6⟩
    · exact absurd k2 t0
    · refine Or.inr ⟨s, o, us, n, ls, us2, n2, ls2, hs, ho, rfl, rfl, h1, h4, h5, k4, k5, fun post H => hX post ?_, fun post H => hYs post (br_f (by rw [h1]; decide) (br_f (by rw [k1]; decide) H))⟩
      refine sa_whole s hs (hS s hs) s0 (fun c _ _ _ _ _ _ _ _ _ => br_f (by decide) ?_) (fun c z => absurd z (by rw [h1]; decide))
      exact sa_whole o ho (hS o ho) t0 (fun c _ _ _ _ _ _ _ _ _ => br_f (by decide) (H c)) (fun c z => absurd z (by rw [k1]; decide))
    · refine Or.inl ⟨-5003, by decide, by decide, fun post H => hX post ?_, fun post H => hYs post (br_f (by rw [h1]; decide) (br_t k1 H))⟩
      refine sa_whole s hs (hS s hs) s0 (fun c _ _ _ _ _ _ _ _ _ => br_f (by decide) ?_) (fun c z => absurd z (by rw [h1]; decide))
      exact sa_whole o ho (hS o ho) t0 (fun c _ _ _ z _ _ _ _ _ => absurd z (by rw [k1]; decide)) (fun c z => br_t rfl (H c))
  · refine Or.inl ⟨-5003, by decide, by decide, fun post H => hX post ?_, fun post H => hYs post (br_t h1 H)⟩
    exact sa_whole s hs (hS s hs) s0 (fun c _ _ _ z _ _ _ _ _ => absurd z (by rw [h1]; decide)) (fun c z => br_t rfl (H c))
theorem sa_same61 {post : Int32 → SX → Prop} (sz : Nat) (hz : sz ≤ 16)
    (H1 : (∀ j, j < sz → a_otherLeft j = a_blockLeft j ∧ a_otherRight j = a_blockRight j) → post 1 (f_length, nI sz, f_low, f_outBits, f_blocks, f_source, f_check, a_left, a_right, a_bytes, a_used, a_turnedBit, a_blockLeft, a_blockRight, a_otherLeft, a_otherRight, a_row, a_residue, a_weight, a_out, a_starts))
    (H0 : ¬ (∀ j, j < sz → a_otherLeft j = a_blockLeft j ∧ a_otherRight j = a_blockRight j) → post 0 (f_length, nI sz, f_low, f_outBits, f_blocks, f_source, f_check, a_left, a_right, a_bytes, a_used, a_turnedBit, a_blockLeft, a_blockRight, a_otherLeft, a_otherRight, a_row, a_residue, a_weight, a_out, a_starts)) :
    ∀ (d i m : Nat), i + d = sz → d < m → (∀ j, j < i → a_otherLeft j = a_blockLeft j ∧ a_otherRight j = a_blockRight j) → wX_isSameBlock_61 post f_length (nI sz) f_low f_outBits f_blocks f_source f_check a_left a_right a_bytes a_used a_turnedBit a_blockLeft a_blockRight a_otherLeft a_otherRight a_row a_residue a_weight a_out a_starts m (nI i) := by
  intro d
  induction d with
  | zero =>
    intro i m hi hm h
    obtain ⟨m, rfl⟩ : ∃ w, m = w + 1 := ⟨m - 1, by omega⟩
    obtain rfl : i = sz := by omega
    exact br_t (Int32.le_refl _) (H1 h)
  | succ d ih =>
    intro i m hi hm h
    obtain ⟨m, rfl⟩ : ∃ w, m = w + 1 := ⟨m - 1, by omega⟩
    have hin : vp_in (nI i) 16 := vp_in_nI (by omega) (by omega)
    refine br_f (nI_ge (by omega) (by omega)) ?_
    rw [nI_clamp (by omega)]
    refine ⟨hin, hin, br_c (fun e1 => ⟨hin, hin, br_c (fun e2 => ?_) (fun e2 => H0 (fun z => e2 (z i (by omega)).2))⟩) (fun e1 => H0 (fun z => e1 (z i (by omega)).1))⟩
    refine nm_r (nI_1 i) (ih (i + 1) m (by omega) (by omega) (fun j hj => ?_))
    by_cases ej : j = i
    · rw [ej]; exact ⟨e1, e2⟩
    · exact h j (by omega)
theorem sa_same9 {post : Int32 → SX → Prop} (o b n us : Nat) (L R M N : Nat → Int32) (ls : Nat → List Bool) (ho : o < 4) (hb : 16 * b < n) (hP : sa_Pk (sa_lc a_bytes o) us n M N ls)
    (hbl : ∀ j, j < sa_sz n b → a_blockLeft j = L (16 * b + j) ∧ a_blockRight j = R (16 * b + j))
    (H1 : ∀ (src : Int32) (bl br ol or ro wt : Nat → Int32), (∀ j, j < sa_sz n b → L (16 * b + j) = M (16 * b + j) ∧ R (16 * b + j) = N (16 * b + j)) → post 1 (f_length, nI (sa_sz n b), f_low, f_outBits, f_blocks, src, f_check, a_left, a_right, a_bytes, a_used, a_turnedBit, bl, br, ol, or, ro, a_residue, wt, a_out, a_starts))
    (H0 : ∀ (src : Int32) (bl br ol or ro wt : Nat → Int32), ¬ (∀ j, j < sa_sz n b → L (16 * b + j) = M (16 * b + j) ∧ R (16 * b + j) = N (16 * b + j)) → post 0 (f_length, nI (sa_sz n b), f_low, f_outBits, f_blocks, src, f_check, a_left, a_right, a_bytes, a_used, a_turnedBit, bl, br, ol, or, ro, a_residue, wt, a_out, a_starts)) :
    ∀ (d i m : Nat) (ol or : Nat → Int32), i + d = sa_sz n b → d < m → (∀ j, j < i → ol j = L (16 * b + j) ∧ or j = R (16 * b + j)) → wX_isSameBlock_9 post (nI o) (nI b) f_length (nI (sa_sz n b)) f_low f_outBits f_blocks f_source f_check m (nI i) a_left a_right a_bytes a_used a_turnedBit a_blockLeft a_blockRight ol or a_row a_residue a_weight a_out a_starts := by
  obtain ⟨z1, z2, z3, z4⟩ := sa_sz_le hb
  intro d
  induction d with
  | zero =>
    intro i m ol or hi hm h
    obtain ⟨m, rfl⟩ : ∃ w, m = w + 1 := ⟨m - 1, by omega⟩
    obtain rfl : i = sa_sz n b := by omega
    refine br_t (Int32.le_refl _) ?_
    refine sa_readBlock o b n us M N ls ho hb rfl hP (fun src bl br ro wt hbl2 => ?_)
    dsimp only
    refine ⟨17, sa_same61 (sa_sz n b) z2 (fun g => H1 _ _ _ _ _ _ _ (fun j hj => ?_)) (fun g => H0 _ _ _ _ _ _ _ (fun z => g (fun j hj => ?_))) (sa_sz n b) 0 17 (by omega) (by omega) (fun j hj => absurd hj (by omega))⟩
    · rw [← (h j hj).1, ← (h j hj).2, ← (hbl2 j hj).1, ← (hbl2 j hj).2]
      exact g j hj
    · rw [(h j hj).1, (h j hj).2, (hbl2 j hj).1, (hbl2 j hj).2]
      exact z j hj
  | succ d ih =>
    intro i m ol or hi hm h
    obtain ⟨m, rfl⟩ : ∃ w, m = w + 1 := ⟨m - 1, by omega⟩
    have hin : vp_in (nI i) 16 := vp_in_nI (by omega) (by omega)
    refine br_f (nI_ge (by omega) (by omega)) ?_
    rw [nI_clamp (by omega)]
    refine ⟨hin, hin, nm_e ⟨hin, hin, nm_e (nm_r (nI_1 i) (ih (i + 1) m _ _ (by omega) (by omega) (fun j hj => ?_)))⟩⟩
    by_cases ej : j = i
    · rw [ej, pk_us, pk_us]; exact hbl i (by omega)
    · rw [pk_un ej, pk_un ej]; exact h j (by omega)
theorem sa_isSameBlock {post : Int32 → SX → Prop} (s o b n us us2 : Nat) (L R M N : Nat → Int32) (ls ls2 : Nat → List Bool) (hs : s < 4) (ho : o < 4) (hb : 16 * b < n) (hP : sa_Pk (sa_lc a_bytes s) us n L R ls) (hP2 : sa_Pk (sa_lc a_bytes o) us2 n M N ls2)
    (H1 : ∀ (size src : Int32) (bl br ol or ro wt : Nat → Int32), (∀ j, j < sa_sz n b → L (16 * b + j) = M (16 * b + j) ∧ R (16 * b + j) = N (16 * b + j)) → post 1 (f_length, size, f_low, f_outBits, f_blocks, src, f_check, a_left, a_right, a_bytes, a_used, a_turnedBit, bl, br, ol, or, ro, a_residue, wt, a_out, a_starts))
    (H0 : ∀ (size src : Int32) (bl br ol or ro wt : Nat → Int32), ¬ (∀ j, j < sa_sz n b → L (16 * b + j) = M (16 * b + j) ∧ R (16 * b + j) = N (16 * b + j)) → post 0 (f_length, size, f_low, f_outBits, f_blocks, src, f_check, a_left, a_right, a_bytes, a_used, a_turnedBit, bl, br, ol, or, ro, a_residue, wt, a_out, a_starts)) :
    wpX_isSameBlock post (f_length, f_size, f_low, f_outBits, f_blocks, f_source, f_check, a_left, a_right, a_bytes, a_used, a_turnedBit, a_blockLeft, a_blockRight, a_otherLeft, a_otherRight, a_row, a_residue, a_weight, a_out, a_starts) (nI s) (nI o) (nI b) := by
  unfold wpX_isSameBlock
  dsimp only
  refine sa_readBlock s b n us L R ls hs hb rfl hP (fun src bl br ro wt hbl => ?_)
  dsimp only
  obtain ⟨z1, z2, z3, z4⟩ := sa_sz_le hb
  exact ⟨17, sa_same9 o b n us2 L R M N ls2 ho hb hP2 hbl (fun src bl br ol or ro wt h => H1 _ src bl br ol or ro wt h) (fun src bl br ol or ro wt h => H0 _ src bl br ol or ro wt h) (sa_sz n b) 0 17 _ _ (by omega) (by omega) (fun j hj => absurd hj (by omega))⟩
theorem sa_same35 {post : Int32 → SX → Prop} (s o n us us2 : Nat) (L R M N : Nat → Int32) (ls ls2 : Nat → List Bool) (hs : s < 4) (ho : o < 4) (hP : sa_Pk (sa_lc a_bytes s) us n L R ls) (hP2 : sa_Pk (sa_lc a_bytes o) us2 n M N ls2)
    (H1 : ∀ (size src : Int32) (bl br ol or ro wt : Nat → Int32), (∀ j, j < n → L j = M j ∧ R j = N j) → post 1 (f_length, size, f_low, f_outBits, f_blocks, src, f_check, a_left, a_right, a_bytes, a_used, a_turnedBit, bl, br, ol, or, ro, a_residue, wt, a_out, a_starts))
    (H0 : ∀ (size src : Int32) (bl br ol or ro wt : Nat → Int32), ¬ (∀ j, j < n → L j = M j ∧ R j = N j) → post 0 (f_length, size, f_low, f_outBits, f_blocks, src, f_check, a_left, a_right, a_bytes, a_used, a_turnedBit, bl, br, ol, or, ro, a_residue, wt, a_out, a_starts)) :
    ∀ (d b m : Nat) (size src : Int32) (bl br ol or ro wt : Nat → Int32), b + d = 6 → d < m → (∀ j, j < n → j < 16 * b → L j = M j ∧ R j = N j) →
    wX_same_35 post (nI s) (nI o) (nI n) m (nI b) f_length size f_low f_outBits f_blocks src f_check a_left a_right a_bytes a_used a_turnedBit bl br ol or ro a_residue wt a_out a_starts := by
  have hn := hP.1
  intro d
  induction d with
  | zero =>
    intro b m size src bl br ol or ro wt hb hm h
    obtain ⟨m, rfl⟩ : ∃ w, m = w + 1 := ⟨m - 1, by omega⟩
    obtain rfl : b = 6 := by omega
    exact br_t (nI_le (b := 96) (by omega) (by omega)) (H1 _ _ _ _ _ _ _ _ (fun j hj => h j hj (by omega)))
  | succ d ih =>
    intro b m size src bl br ol or ro wt hb hm h
    obtain ⟨m, rfl⟩ : ∃ w, m = w + 1 := ⟨m - 1, by omega⟩
    have e : nI b * 16 = nI (16 * b) := by
      rw [show nI b * 16 = nI (b * 16) from pk_mul b 16]
      exact congrArg nI (by omega)
    refine br_c (fun g => ?_) (fun g => ?_)
    · rw [e, nI_leI (by omega) (by omega)] at g
      exact H1 _ _ _ _ _ _ _ _ (fun j hj => h j hj (by omega))
    · rw [e, nI_leI (by omega) (by omega)] at g
      obtain ⟨z1, z2, z3, z4⟩ := sa_sz_le (show 16 * b < n by omega)
      refine sa_isSameBlock s o b n us us2 L R M N ls ls2 hs ho (by omega) hP hP2 (fun size' src' bl' br' ol' or' ro' wt' hh => br_f (by decide) ?_) (fun size' src' bl' br' ol' or' ro' wt' hh => br_t rfl (H0 _ _ _ _ _ _ _ _ (fun z => hh (fun j hj => z _ (by omega)))))
      refine nm_r (nI_1 b) (ih (b + 1) m _ _ _ _ _ _ _ _ (by omega) (by omega) (fun j hj hj2 => ?_))
      by_cases hj3 : j < 16 * b
      · exact h j hj hj3
      · have hin : j - 16 * b < sa_sz n b := by unfold sa_sz; split <;> omega
        have := hh (j - 16 * b) hin
        rw [show 16 * b + (j - 16 * b) = j from by omega] at this
        exact this
theorem sa_ysame55 {post : Int32 → Prop} (s o n : Nat) (hs : s < 4) (ho : o < 4) (hn : n ≤ 96) (hl : a_lengths (s + 1) = nI n)
    (H1 : (∀ j, j < n → a_samples (192 * (s + 1) + j) = a_samples (192 * (o + 1) + j) ∧ a_samples (192 * (s + 1) + (96 + j)) = a_samples (192 * (o + 1) + (96 + j))) → post 1)
    (H0 : ¬ (∀ j, j < n → a_samples (192 * (s + 1) + j) = a_samples (192 * (o + 1) + j) ∧ a_samples (192 * (s + 1) + (96 + j)) = a_samples (192 * (o + 1) + (96 + j))) → post 0) :
    ∀ (d i m : Nat), i + d = n → d < m → (∀ j, j < i → a_samples (192 * (s + 1) + j) = a_samples (192 * (o + 1) + j) ∧ a_samples (192 * (s + 1) + (96 + j)) = a_samples (192 * (o + 1) + (96 + j))) →
    wY_same_55 post (nI s) (nI (192 * (s + 1))) (nI (192 * (o + 1))) a_lengths a_samples a_states m (nI i) := by
  intro d
  induction d with
  | zero =>
    intro i m hi hm h
    obtain ⟨m, rfl⟩ : ∃ w, m = w + 1 := ⟨m - 1, by omega⟩
    obtain rfl : i = n := by omega
    unfold wY_same_55
    rw [nI_1 s, nI_clamp (by omega), hl]
    exact ⟨vp_in_nI (by omega) (by omega), br_t (Int32.le_refl _) (H1 h)⟩
  | succ d ih =>
    intro i m hi hm h
    obtain ⟨m, rfl⟩ : ∃ w, m = w + 1 := ⟨m - 1, by omega⟩
    have e : ∀ q, nI (192 * q) + 96 + nI i = nI (192 * q + (96 + i)) := fun q => by
      rw [show nI (192 * q) + 96 = nI (192 * q + 96) from nI_add _ 96, nI_add, Nat.add_assoc]
    unfold wY_same_55
    rw [nI_1 s, nI_clamp (show s + 1 < 2 ^ 31 by omega), hl]
    refine ⟨vp_in_nI (by omega) (by omega), br_f (nI_ge (by omega) (by omega)) ?_⟩
    rw [e, e, nI_add, nI_add, nI_clamp (by omega), nI_clamp (by omega), nI_clamp (by omega), nI_clamp (by omega)]
    refine ⟨vp_in_nI (by omega) (by omega), vp_in_nI (by omega) (by omega), br_c (fun e1 => ⟨vp_in_nI (by omega) (by omega), vp_in_nI (by omega) (by omega), br_c (fun e2 => ?_) (fun e2 => H0 (fun z => e2 (z i (by omega)).2))⟩) (fun e1 => H0 (fun z => e1 (z i (by omega)).1))⟩
    refine nm_r (nI_1 i) (ih (i + 1) m (by omega) (by omega) (fun j hj => ?_))
    by_cases ej : j = i
    · rw [ej]; exact ⟨e1, e2⟩
    · exact h j (by omega)
end
theorem i_vc_same {k : Nat} {u : SX} {v : SY} (I : i_Rel k u v) (hk : k + 5 ≤ 2560) (v1 : Int32) (v2 : Int32) : wpX_same (fun r u' => wpY_same (fun r' => r' = r ∧ i_Rel (k + 5) u' v) v v1 v2) u v1 v2 := by
  obtain ⟨f_length, f_size, f_low, f_outBits, f_blocks, f_source, f_check, a_left, a_right, a_bytes, a_used, a_turnedBit, a_blockLeft, a_blockRight, a_otherLeft, a_otherRight, a_row, a_residue, a_weight, a_out, a_starts⟩ := u
  obtain ⟨a_lengths, a_samples, a_states⟩ := v
  have I2 := I
  obtain ⟨⟨n, hn, rfl, hl, hH⟩, hby, hS⟩ := I2
  unfold wpX_same
  dsimp only
  rcases sa_both (f_length := nI n) (f_size := f_size) (f_low := f_low) (f_outBits := f_outBits) (f_blocks := f_blocks) (f_source := f_source) (f_check := f_check) (a_left := a_left) (a_right := a_right) (a_blockLeft := a_blockLeft) (a_blockRight := a_blockRight) (a_otherLeft := a_otherLeft) (a_otherRight := a_otherRight) (a_row := a_row) (a_residue := a_residue) (a_weight := a_weight) (a_out := a_out) (a_starts := a_starts) hS v1 v2 with ⟨r, r0, r1, hX, hY⟩ | ⟨s, o, us, f, ls, us2, g, ls2, hs, ho, rfl, rfl, hst, hf, hP, hg, hP2, hX, hY⟩
  · have hYs : ∀ post : Int32 → Prop, post r → wpY_same post (a_lengths, a_samples, a_states) v1 v2 := fun post h => by
      unfold wpY_same
      dsimp only
      exact hY _ (br_f r1 h)
    exact hX _ (fun c => br_f r0 (hYs _ ⟨rfl, I⟩))
  · have hYs : ∀ post : Int32 → Prop, ((nI f = nI g → ∃ n55, wY_same_55 post (nI s) (nI (192 * (s + 1))) (nI (192 * (o + 1))) a_lengths a_samples a_states n55 0) ∧ (¬ nI f = nI g → post 0)) → wpY_same post (a_lengths, a_samples, a_states) (nI s) (nI o) := fun post h => by
      unfold wpY_same
      dsimp only
      refine hY _ (br_t rfl (nm_r (e' := nI (192 * (s + 1))) (by rw [nI_1]; exact pk_mul 192 _) (nm_r (e' := nI (192 * (o + 1))) (by rw [nI_1]; exact pk_mul 192 _) ?_)))
      rw [nI_1, nI_1, nI_clamp (by omega), nI_clamp (by omega), hf, hg]
      exact ⟨vp_in_nI (by omega) (by omega), vp_in_nI (by omega) (by omega), h⟩
    refine hX _ (fun c => br_t (by decide) ?_)
    dsimp only
    refine sa_momentsOf s f hs hP.2.1 ?_
    refine sa_momentsOf o g ho hP2.2.1 ?_
    have hf96 := hP.1
    have hg96 := hP2.1
    refine pk_eq f g (fun e => ?_) (fun e => ?_)
    · subst e
      refine ⟨7, sa_same35 s o f us us2 _ _ _ _ ls ls2 hs ho hP hP2 (fun size src bl br ol or ro wt h => hYs _ (br_t rfl ⟨f + 1, ?_⟩)) (fun size src bl br ol or ro wt h => hYs _ (br_t rfl ⟨f + 1, ?_⟩)) 6 0 7 _ _ _ _ _ _ _ _ (by omega) (by omega) (fun j _ hj => absurd hj (by omega))⟩
      · exact sa_ysame55 s o f hs ho hf96 hf (fun _ => ⟨rfl, I⟩) (fun z => absurd h z) f 0 (f + 1) (by omega) (by omega) (fun j hj => absurd hj (by omega))
      · exact sa_ysame55 s o f hs ho hf96 hf (fun z => absurd z h) (fun _ => ⟨rfl, I⟩) f 0 (f + 1) (by omega) (by omega) (fun j hj => absurd hj (by omega))
    · exact hYs _ (br_f (fun z => e ((nI_eq (by omega) (by omega)).mp z)) ⟨rfl, I⟩)
end
section
/-! join -/
def sa_jn (f : Nat) (L M : Nat → Int32) : Nat → Int32 := fun i => if i < f then L i else M (i - f)
theorem sa_jn_lo {f i : Nat} {L M : Nat → Int32} (h : i < f) : sa_jn f L M i = L i := if_pos h
theorem sa_jn_hi {f i : Nat} {L M : Nat → Int32} (h : f ≤ i) : sa_jn f L M i = M (i - f) := if_neg (by omega)
theorem sa_EB_own {f g b : Nat} {L R M N : Nat → Int32} {l : List Bool} (hb : b < f / 16) (h : sa_EB (sa_sz f b) (fun i => L (16 * b + i)) (fun i => R (16 * b + i)) l) :
    sa_EB (sa_sz (f + g) b) (fun i => sa_jn f L M (16 * b + i)) (fun i => sa_jn f R N (16 * b + i)) l := by
  have e1 : sa_sz f b = 16 := if_pos (by omega)
  have e2 : sa_sz (f + g) b = 16 := if_pos (by omega)
  rw [e1] at h
  rw [e2]
  exact sa_EB_c (fun j hj => (sa_jn_lo (by omega)).symm) (fun j hj => (sa_jn_lo (by omega)).symm) h
theorem sa_EB_oth {F f g b : Nat} {L R M N : Nat → Int32} {l : List Bool} (hf : f = 16 * F) (h : sa_EB (sa_sz g b) (fun i => M (16 * b + i)) (fun i => N (16 * b + i)) l) :
    sa_EB (sa_sz (f + g) (F + b)) (fun i => sa_jn f L M (16 * (F + b) + i)) (fun i => sa_jn f R N (16 * (F + b) + i)) l := by
  have e1 : sa_sz (f + g) (F + b) = sa_sz g b := by
    unfold sa_sz
    rw [show f + g - 16 * (F + b) = g - 16 * b from by omega]
  rw [e1]
  refine sa_EB_c (fun j hj => ?_) (fun j hj => ?_) h
  · show _ = sa_jn f L M (16 * (F + b) + j)
    rw [sa_jn_hi (by omega), show 16 * (F + b) + j - f = 16 * b + j from by omega]
  · show _ = sa_jn f R N (16 * (F + b) + j)
    rw [sa_jn_hi (by omega), show 16 * (F + b) + j - f = 16 * b + j from by omega]
section
variable {f_length f_size f_low f_outBits f_blocks f_source f_check : Int32} {a_left a_right a_bytes a_used a_turnedBit a_blockLeft a_blockRight a_otherLeft a_otherRight a_row a_residue a_weight a_out a_starts : Nat → Int32} {a_lengths a_samples a_states : Nat → Int32}
theorem sa_copy54 {post : SX → Prop} {E : Nat} (hE : E < 2 ^ 30) : ∀ (l : List Bool) (m x s p : Nat) (o : Nat → Int32), l.length < m → x + l.length = E → s + l.length ≤ 13440 → p + l.length ≤ 3360 → sa_Ho (sa_gb a_bytes) s l →
    post (f_length, f_size, f_low, nI (p + l.length), f_blocks, nI (s + l.length), f_check, a_left, a_right, a_bytes, a_used, a_turnedBit, a_blockLeft, a_blockRight, a_otherLeft, a_otherRight, a_row, a_residue, a_weight, sa_pL l o p, a_starts) → wX_copyBlock_54 post (nI E) m (nI x) f_length f_size f_low (nI p) f_blocks (nI s) f_check a_left a_right a_bytes a_used a_turnedBit a_blockLeft a_blockRight a_otherLeft a_otherRight a_row a_residue a_weight o a_starts := by
  intro l
  induction l with
  | nil =>
    intro m x s p o hm hx hs hp _ H
    obtain ⟨m, rfl⟩ : ∃ w, m = w + 1 := ⟨m - 1, by omega⟩
    rw [List.length_nil] at hx
    exact br_t (nI_le (by omega) (by omega)) H
  | cons b l ih =>
    intro m x s p o hm hx hs hp hh H
    rw [List.length_cons] at hm hx hs hp H
    obtain ⟨m, rfl⟩ : ∃ w, m = w + 1 := ⟨m - 1, by omega⟩
    refine br_f (nI_ge (by omega) (by omega)) ?_
    refine sa_takeBit s (by omega) ?_
    dsimp only
    rw [hh.1]
    refine sa_putBit p b rfl (by omega) ?_
    refine nm_r (nI_1 x) (ih m (x + 1) (s + 1) (p + 1) _ (by omega) (by omega) (by omega) (by omega) hh.2 ?_)
    rw [show s + 1 + l.length = s + (l.length + 1) from by omega, show p + 1 + l.length = p + (l.length + 1) from by omega]
    exact H
theorem sa_copyBlock {post : SX → Prop} (s b n us k p : Nat) (L R : Nat → Int32) (ls : Nat → List Bool) (hs : s < 4) (hb : b < sa_nb n) (hk : k < 6) (hp : p + 456 ≤ 3360) (hP : sa_Pk (sa_lc a_bytes s) us n L R ls)
    (H : ∀ src, post (f_length, f_size, f_low, nI (p + (ls b).length), nI (k + 1), src, f_check, a_left, a_right, a_bytes, a_used, a_turnedBit, a_blockLeft, a_blockRight, a_otherLeft, a_otherRight, a_row, a_residue, a_weight, sa_pL (ls b) a_out p, upd a_starts k (nI p))) :
    wpX_copyBlock post (f_length, f_size, f_low, nI p, nI k, f_source, f_check, a_left, a_right, a_bytes, a_used, a_turnedBit, a_blockLeft, a_blockRight, a_otherLeft, a_otherRight, a_row, a_residue, a_weight, a_out, a_starts) (nI s) (nI b) := by
  have hus := sa_Pk_us hP
  obtain ⟨h1, h2, h3, h4, h5, h6, h7, h8⟩ := hP
  have hcb := sa_cat_mono ls (sa_nb n) (b + 1) (by omega)
  have hcb' : (sa_cat ls (b + 1)).length = (sa_cat ls b).length + (ls b).length := by
    show (sa_cat ls b ++ ls b).length = _
    rw [List.length_append]
  have hblk : sa_Ho (sa_gb a_bytes) (3360 * s + 8 * (3 + 2 * (sa_nb n + 1)) + (sa_cat ls b).length) (ls b) := by
    refine sa_Ho_sh _ _ _ (fun i hi => ?_) (sa_cat_ho (sa_nb n) h5 b hb)
    rw [sa_gb_lc]
    exact congrArg _ (by omega)
  have hl := (h3 b hb).1
  unfold wpX_copyBlock
  dsimp only
  refine sa_startOf s b _ hs (by omega) (by omega) rfl (h4 b (by omega)) ?_
  refine sa_startOf s (b + 1) _ hs (by omega) (by omega) (nI_1 b) (h4 (b + 1) (by omega)) ?_
  refine ⟨vp_in_nI (by omega) (by omega), nm_r (e' := upd a_starts k (nI p)) (by rw [nI_clamp (by omega)]) (nm_r (nI_1 k) ?_)⟩
  refine sa_firstBit s n hs h1 h2 ?_
  refine nm_r (nI_add _ _) ⟨457, ?_⟩
  exact sa_copy54 (by omega) (ls b) 457 _ _ p a_out (by omega) hcb'.symm (by omega) (by omega) hblk (H _)
theorem sa_takeOther7 {post : SX → Prop} (sz : Nat) (hz : sz ≤ 16) (H : ∀ bl br, (∀ j, j < sz → bl j = a_otherLeft j ∧ br j = a_otherRight j) → post (f_length, f_size, f_low, f_outBits, f_blocks, f_source, f_check, a_left, a_right, a_bytes, a_used, a_turnedBit, bl, br, a_otherLeft, a_otherRight, a_row, a_residue, a_weight, a_out, a_starts)) :
    ∀ (d i m : Nat) (bl br : Nat → Int32), i + d = sz → d < m → (∀ j, j < i → bl j = a_otherLeft j ∧ br j = a_otherRight j) → wX_takeOther_7 post (nI sz) f_length f_size f_low f_outBits f_blocks f_source f_check m (nI i) a_left a_right a_bytes a_used a_turnedBit bl br a_otherLeft a_otherRight a_row a_residue a_weight a_out a_starts := by
  intro d
  induction d with
  | zero =>
    intro i m bl br hi hm h
    obtain ⟨m, rfl⟩ : ∃ w, m = w + 1 := ⟨m - 1, by omega⟩
    obtain rfl : i = sz := by omega
    exact br_t (Int32.le_refl _) (H bl br h)
  | succ d ih =>
    intro i m bl br hi hm h
    obtain ⟨m, rfl⟩ : ∃ w, m = w + 1 := ⟨m - 1, by omega⟩
    have hin : vp_in (nI i) 16 := vp_in_nI (by omega) (by omega)
    refine br_f (nI_ge (by omega) (by omega)) ?_
    rw [nI_clamp (by omega)]
    refine ⟨hin, hin, nm_e ⟨hin, hin, nm_e (nm_r (nI_1 i) (ih (i + 1) m _ _ (by omega) (by omega) (fun j hj => ?_)))⟩⟩
    by_cases ej : j = i
    · rw [ej, pk_us, pk_us]; exact ⟨rfl, rfl⟩
    · rw [pk_un ej, pk_un ej]; exact h j (by omega)
theorem sa_takeOther {post : SX → Prop} (sz : Nat) (hz : sz ≤ 16) (H : ∀ bl br, (∀ j, j < sz → bl j = a_otherLeft j ∧ br j = a_otherRight j) → post (f_length, nI sz, f_low, f_outBits, f_blocks, f_source, f_check, a_left, a_right, a_bytes, a_used, a_turnedBit, bl, br, a_otherLeft, a_otherRight, a_row, a_residue, a_weight, a_out, a_starts)) : wpX_takeOther post (f_length, f_size, f_low, f_outBits, f_blocks, f_source, f_check, a_left, a_right, a_bytes, a_used, a_turnedBit, a_blockLeft, a_blockRight, a_otherLeft, a_otherRight, a_row, a_residue, a_weight, a_out, a_starts) (nI sz) :=
  ⟨17, sa_takeOther7 sz hz H sz 0 17 a_blockLeft a_blockRight (by omega) (by omega) (fun j hj => absurd hj (by omega))⟩
theorem sa_jn_sm {f g : Nat} {L R M N : Nat → Int32} (h1 : ∀ i, i < f → sa_sm (L i) ∧ sa_sm (R i)) (h2 : ∀ i, i < g → sa_sm (M i) ∧ sa_sm (N i)) : ∀ i, i < f + g → sa_sm (sa_jn f L M i) ∧ sa_sm (sa_jn f R N i) := by
  intro i hi
  by_cases h : i < f
  · rw [sa_jn_lo h, sa_jn_lo h]; exact h1 i h
  · rw [sa_jn_hi (by omega), sa_jn_hi (by omega)]; exact h2 _ (by omega)
theorem sa_wj44 {post : SX → Prop}
    {J : Int32 → Int32 → Int32 → Int32 → Int32 → Int32 → Int32 → Int32 → (Nat → Int32) → (Nat → Int32) → (Nat → Int32) → (Nat → Int32) → (Nat → Int32) → (Nat → Int32) → (Nat → Int32) → (Nat → Int32) → (Nat → Int32) → (Nat → Int32) → (Nat → Int32) → (Nat → Int32) → (Nat → Int32) → (Nat → Int32) → Prop}
    (s o f g k sz us us2 p : Nat) (L R M N : Nat → Int32) (ls ls2 : Nat → List Bool) (hs : s < 4) (ho : o < 4) (hP : sa_Pk (sa_lc a_bytes s) us f L R ls) (hP2 : sa_Pk (sa_lc a_bytes o) us2 g M N ls2)
    (hz : sz ≤ 16) (hz1 : 1 ≤ sz) (hk : k < 6) (hkz : 16 * k + sz ≤ f + g) (hfg : f + g ≤ 96) (hp : p + 456 ≤ 3360)
    (H : ∀ (l : List Bool) (low src : Int32) (bl br ol or ro res wt : Nat → Int32), sa_EB sz (fun i => sa_jn f L M (16 * k + i)) (fun i => sa_jn f R N (16 * k + i)) l → l.length ≤ 456 →
      J (nI (16 * (k + 1))) f_length (nI sz) low (nI (p + l.length)) (nI (k + 1)) src f_check a_left a_right a_bytes a_used a_turnedBit bl br ol or ro res wt (sa_pL l a_out p) (upd a_starts k (nI p))) :
    ∀ (d i m : Nat) (size src : Int32) (bl br ol or ro wt : Nat → Int32), i + d = sz → d < m → (∀ j, j < i → ol j = sa_jn f L M (16 * k + j) ∧ or j = sa_jn f R N (16 * k + j)) →
    wX_writeJoined_44 post J (nI s) (nI o) (nI f) (nI (f + g)) (nI (16 * k)) (nI sz) m (nI i) f_length size f_low (nI p) (nI k) src f_check a_left a_right a_bytes a_used a_turnedBit bl br ol or ro a_residue wt a_out a_starts := by
  have hsm := sa_jn_sm (f := f) (g := g) hP.2.2.2.2.2.2.2 hP2.2.2.2.2.2.2.2
  intro d
  induction d with
  | zero =>
    intro i m size src bl br ol or ro wt hi hm h
    obtain ⟨m, rfl⟩ : ∃ w, m = w + 1 := ⟨m - 1, by omega⟩
    obtain rfl : i = sz := by omega
    refine br_t (Int32.le_refl _) ?_
    refine sa_takeOther i hz (fun bl' br' hbl => ?_)
    dsimp only
    have hb2 : ∀ j, j < i → bl' j = sa_jn f L M (16 * k + j) ∧ br' j = sa_jn f R N (16 * k + j) := fun j hj => ⟨(hbl j hj).1.trans (h j hj).1, (hbl j hj).2.trans (h j hj).2⟩
    refine sa_writeBlock i p k hz hz1 hk hp (fun j hj => ?_) (fun l low ro' res wt' hE hlen => ?_)
    · rw [(hb2 j hj).1, (hb2 j hj).2]
      exact ⟨sa_sm_bd (hsm _ (by omega)).1, sa_sm_bd (hsm _ (by omega)).2⟩
    · refine nm_r (e' := nI (16 * (k + 1))) (nI_add (16 * k) 16) ?_
      exact H l low _ bl' br' ol or ro' res wt' (sa_EB_c (fun j hj => (hb2 j hj).1) (fun j hj => (hb2 j hj).2) hE) hlen
  | succ d ih =>
    intro i m size src bl br ol or ro wt hi hm h
    obtain ⟨m, rfl⟩ : ∃ w, m = w + 1 := ⟨m - 1, by omega⟩
    have hin : vp_in (nI i) 16 := vp_in_nI (by omega) (by omega)
    have K : ∀ (size src : Int32) (bl br ro wt : Nat → Int32) (l r : Int32), l = sa_jn f L M (16 * k + i) → r = sa_jn f R N (16 * k + i) → wX_writeJoined_44 post J (nI s) (nI o) (nI f) (nI (f + g)) (nI (16 * k)) (nI sz) m (nI (i + 1)) f_length size f_low (nI p) (nI k) src f_check a_left a_right a_bytes a_used a_turnedBit bl br (upd ol i l) (upd or i r) ro a_residue wt a_out a_starts := by
      intro size src bl br ro wt l r hl hr
      refine ih (i + 1) m _ _ _ _ _ _ _ _ (by omega) (by omega) (fun j hj => ?_)
      by_cases ej : j = i
      · rw [ej, pk_us, pk_us]; exact ⟨hl, hr⟩
      · rw [pk_un ej, pk_un ej]; exact h j (by omega)
    refine br_f (nI_ge (by omega) (by omega)) (nm_r (nI_add _ _) ?_)
    refine pk_le f (16 * k + i) (fun hf => ?_) (fun hf => ?_)
    · have e1 : nI (16 * k + i) - nI f = nI (16 * k + i - f) := pk_sub hf
      have e2 : nI (16 * k + i - f) / (16 : Int32) = nI ((16 * k + i - f) / 16) := pk_div (d := 16) (by omega) (by omega) (by omega)
      have e3 : nI (16 * k + i - f) - nI (16 * k + i - f) / (16 : Int32) * 16 = nI ((16 * k + i - f) % 16) := pk_rem (d := 16) (by omega) (by omega) (by omega)
      refine br_t (nI_le hf (by omega)) ⟨by decide, ?_⟩
      unfold wX_writeJoined_91
      rw [e1]
      refine sa_readBlock o ((16 * k + i - f) / 16) g us2 M N ls2 ho (by omega) e2 hP2 (fun src' bl' br' ro' wt' hbl => ?_)
      dsimp only
      refine br_t (nI_le hf (by omega)) ⟨by decide, ?_⟩
      rw [e3]
      unfold wX_writeJoined_115
      rw [nI_clamp (by omega), nI_clamp (by omega)]
      have hq : (16 * k + i - f) % 16 < sa_sz g ((16 * k + i - f) / 16) := by unfold sa_sz; split <;> omega
      have hb := hbl _ hq
      rw [show 16 * ((16 * k + i - f) / 16) + (16 * k + i - f) % 16 = 16 * k + i - f from by omega, ← sa_jn_hi (L := L) (M := M) hf, ← sa_jn_hi (L := R) (M := N) hf] at hb
      refine ⟨vp_in_nI (by omega) (by omega), hin, nm_e ⟨vp_in_nI (by omega) (by omega), hin, nm_e (nm_r (nI_1 i) (K _ _ _ _ _ _ _ _ hb.1 hb.2))⟩⟩
    · have e2 : nI (16 * k + i) / (16 : Int32) = nI ((16 * k + i) / 16) := pk_div (d := 16) (by omega) (by omega) (by omega)
      have e3 : nI (16 * k + i) - nI (16 * k + i) / (16 : Int32) * 16 = nI ((16 * k + i) % 16) := pk_rem (d := 16) (by omega) (by omega) (by omega)
      refine br_f (nI_ge hf (by omega)) ⟨by decide, ?_⟩
      unfold wX_writeJoined_91
      refine sa_readBlock s ((16 * k + i) / 16) f us L R ls hs (by omega) e2 hP (fun src' bl' br' ro' wt' hbl => ?_)
      dsimp only
      refine br_f (nI_ge hf (by omega)) ⟨by decide, ?_⟩
      rw [e3]
      unfold wX_writeJoined_115
      rw [nI_clamp (by omega), nI_clamp (by omega)]
      have hq : (16 * k + i) % 16 < sa_sz f ((16 * k + i) / 16) := by unfold sa_sz; split <;> omega
      have hb := hbl _ hq
      rw [show 16 * ((16 * k + i) / 16) + (16 * k + i) % 16 = 16 * k + i from by omega, ← sa_jn_lo (L := L) (M := M) hf, ← sa_jn_lo (L := R) (M := N) hf] at hb
      refine ⟨vp_in_nI (by omega) (by omega), hin, nm_e ⟨vp_in_nI (by omega) (by omega), hin, nm_e (nm_r (nI_1 i) (K _ _ _ _ _ _ _ _ hb.1 hb.2))⟩⟩
theorem sa_wj12 {post : SX → Prop} (s o f g us us2 : Nat) (L R M N : Nat → Int32) (ls ls2 : Nat → List Bool) (hs : s < 4) (ho : o < 4) (hP : sa_Pk (sa_lc a_bytes s) us f L R ls) (hP2 : sa_Pk (sa_lc a_bytes o) us2 g M N ls2) (hfg : f + g ≤ 96)
    (H : ∀ (size low src : Int32) (bl br ol or ro res wt out sts : Nat → Int32) (ms : Nat → List Bool), sa_WI out sts (sa_jn f L M) (sa_jn f R N) (f + g) (sa_nb (f + g)) ms →
      post (f_length, size, low, nI (sa_cat ms (sa_nb (f + g))).length, nI (sa_nb (f + g)), src, f_check, a_left, a_right, a_bytes, a_used, a_turnedBit, bl, br, ol, or, ro, res, wt, out, sts)) :
    ∀ (d k m : Nat) (size low src : Int32) (bl br ol or ro res wt out sts : Nat → Int32) (ms : Nat → List Bool), k + d = sa_nb (f + g) → d < m → sa_WI out sts (sa_jn f L M) (sa_jn f R N) (f + g) k ms →
    wX_writeJoined_12 post (nI s) (nI o) (nI f) (nI (f + g)) m (nI (16 * k)) f_length size low (nI (sa_cat ms k).length) (nI k) src f_check a_left a_right a_bytes a_used a_turnedBit bl br ol or ro res wt out sts := by
  have hk6 := sa_nb_le (Nat.le_refl (sa_nb (f + g))) hfg
  intro d
  induction d with
  | zero =>
    intro k m size low src bl br ol or ro res wt out sts ms hk hm hW
    obtain ⟨m, rfl⟩ : ∃ w, m = w + 1 := ⟨m - 1, by omega⟩
    obtain rfl : k = sa_nb (f + g) := by omega
    exact br_t (nI_le (by unfold sa_nb; omega) (by omega)) (H _ _ _ _ _ _ _ _ _ _ _ _ ms hW)
  | succ d ih =>
    intro k m size low src bl br ol or ro res wt out sts ms hk hm hW
    obtain ⟨m, rfl⟩ : ∃ w, m = w + 1 := ⟨m - 1, by omega⟩
    have hkn : 16 * k < f + g := by unfold sa_nb at hk; omega
    obtain ⟨z1, z2, z3, z4⟩ := sa_sz_le hkn
    have hle := sa_WI_le hW k (Nat.le_refl _)
    have e : nI (f + g) - nI (16 * k) = nI (f + g - 16 * k) := pk_sub (by omega)
    have K : wX_writeJoined_44 post (wX_writeJoined_12 post (nI s) (nI o) (nI f) (nI (f + g)) m) (nI s) (nI o) (nI f) (nI (f + g)) (nI (16 * k)) (nI (sa_sz (f + g) k)) 17 (nI 0) f_length size low (nI (sa_cat ms k).length) (nI k) src f_check a_left a_right a_bytes a_used a_turnedBit bl br ol or ro res wt out sts := by
      refine sa_wj44 s o f g k (sa_sz (f + g) k) us us2 _ L R M N ls ls2 hs ho hP hP2 z2 z1 (by omega) (by omega) hfg (by omega) (fun l low' src' bl' br' ol' or' ro' res' wt' hE hl => ?_) (sa_sz (f + g) k) 0 17 _ _ _ _ _ _ _ _ (by omega) (by omega) (fun j hj => absurd hj (by omega))
      obtain ⟨ms', hW', hlen⟩ := sa_WI_s hW rfl l hl hE
      rw [← hlen]
      exact ih (k + 1) m _ _ _ _ _ _ _ _ _ _ _ _ ms' (by omega) (by omega) hW'
    refine br_f (nI_ge (by omega) (by omega)) ?_
    rw [e]
    unfold sa_sz at K
    refine pk_le 16 (f + g - 16 * k) (fun h => ?_) (fun h => ?_)
    · rw [if_pos h] at K
      exact ⟨17, K⟩
    · rw [if_neg (by omega)] at K
      exact nm_e ⟨17, K⟩
end
end
section
/-! join, the rest of it -/
theorem sa_nb_add {F g : Nat} : sa_nb (16 * F + g) = F + sa_nb g := by
  unfold sa_nb
  omega
section
variable {f_length f_size f_low f_outBits f_blocks f_source f_check : Int32} {a_left a_right a_bytes a_used a_turnedBit a_blockLeft a_blockRight a_otherLeft a_otherRight a_row a_residue a_weight a_out a_starts : Nat → Int32} {a_lengths a_samples a_states : Nat → Int32}
theorem sa_join121 {post : Int32 → SX → Prop} (s f g T : Nat) (L R : Nat → Int32) (ms : Nat → List Bool) (hs : s < 4) (hfg : f + g ≤ 96) (hT : T = (sa_cat ms (sa_nb (f + g))).length) (hW : sa_WI a_out a_starts L R (f + g) (sa_nb (f + g)) ms) (hsm : ∀ i, i < f + g → sa_sm (L i) ∧ sa_sm (R i))
    (H : ∀ (us : Nat) (ms : Nat → List Bool) (outBits blocks ck : Int32) (bs sts : Nat → Int32), sa_By a_out → sa_ou bs a_bytes s → sa_Pk (sa_lc bs s) us (f + g) L R ms → sa_ck (sa_lc bs s) us → post (nI (f + g)) (f_length, f_size, f_low, outBits, blocks, f_source, ck, a_left, a_right, bs, upd a_used s (nI us), upd a_turnedBit s (-1), a_blockLeft, a_blockRight, a_otherLeft, a_otherRight, a_row, a_residue, a_weight, a_out, sts)) :
    wX_join_121 post (nI s) (nI f) (nI g) f_length f_size f_low (nI T) (nI (sa_nb (f + g))) f_source f_check a_left a_right a_bytes a_used a_turnedBit a_blockLeft a_blockRight a_otherLeft a_otherRight a_row a_residue a_weight a_out a_starts := by
  unfold wX_join_121
  rw [nI_add]
  refine sa_finishP s (f + g) T L R ms hs hfg rfl hT hW hsm (fun us ck bs sts ho hP hc => ?_)
  exact H us ms _ _ ck bs sts hW.1 ho hP hc
theorem sa_join82 {post : Int32 → SX → Prop} (s o F f g us us2 : Nat) (L R M N : Nat → Int32) (ls ls2 : Nat → List Bool) (hs : s < 4) (ho : o < 4) (hF : f = 16 * F) (hP : sa_Pk (sa_lc a_bytes s) us f L R ls) (hP2 : sa_Pk (sa_lc a_bytes o) us2 g M N ls2) (hfg : f + g ≤ 96)
    (H : ∀ (us : Nat) (ms : Nat → List Bool) (outBits blocks src ck : Int32) (bs out sts : Nat → Int32), sa_By out → sa_ou bs a_bytes s → sa_Pk (sa_lc bs s) us (f + g) (sa_jn f L M) (sa_jn f R N) ms → sa_ck (sa_lc bs s) us → post (nI (f + g)) (f_length, f_size, f_low, outBits, blocks, src, ck, a_left, a_right, bs, upd a_used s (nI us), upd a_turnedBit s (-1), a_blockLeft, a_blockRight, a_otherLeft, a_otherRight, a_row, a_residue, a_weight, out, sts)) :
    ∀ (d b m : Nat) (src : Int32) (out sts : Nat → Int32) (ms : Nat → List Bool), b + d = sa_nb g → d < m → sa_WI out sts (sa_jn f L M) (sa_jn f R N) (f + g) (F + b) ms →
    wX_join_82 post (nI s) (nI o) (nI f) (nI g) m (nI b) f_length f_size f_low (nI (sa_cat ms (F + b)).length) (nI (F + b)) src f_check a_left a_right a_bytes a_used a_turnedBit a_blockLeft a_blockRight a_otherLeft a_otherRight a_row a_residue a_weight out sts := by
  have hsm := sa_jn_sm (f := f) (g := g) hP.2.2.2.2.2.2.2 hP2.2.2.2.2.2.2.2
  have hnb : sa_nb (f + g) = F + sa_nb g := by rw [hF]; exact sa_nb_add
  have hk6 := sa_nb_le (Nat.le_refl (sa_nb (f + g))) hfg
  intro d
  induction d with
  | zero =>
    intro b m src out sts ms hb hm hW
    obtain ⟨m, rfl⟩ : ∃ w, m = w + 1 := ⟨m - 1, by omega⟩
    obtain rfl : b = sa_nb g := by omega
    have e : nI (sa_nb g) * 16 = nI (16 * sa_nb g) := by
      rw [show nI (sa_nb g) * 16 = nI (sa_nb g * 16) from pk_mul (sa_nb g) 16]
      exact congrArg nI (by omega)
    rw [← hnb] at hW ⊢
    refine br_t (by rw [e]; exact nI_le (by unfold sa_nb; omega) (by omega)) ?_
    exact sa_join121 s f g _ _ _ ms hs hfg rfl hW hsm (fun us ms ob bk ck bs sts h1 h2 h3 h4 => H us ms ob bk src ck bs out sts h1 h2 h3 h4)
  | succ d ih =>
    intro b m src out sts ms hb hm hW
    obtain ⟨m, rfl⟩ : ∃ w, m = w + 1 := ⟨m - 1, by omega⟩
    have hbg : 16 * b < g := by unfold sa_nb at hb; omega
    have e : nI b * 16 = nI (16 * b) := by
      rw [show nI b * 16 = nI (b * 16) from pk_mul b 16]
      exact congrArg nI (by omega)
    have hle := sa_WI_le hW (F + b) (Nat.le_refl _)
    have h3 := hP2.2.2.1 b (by omega)
    refine br_f (by rw [e]; exact nI_ge hbg (by omega)) ?_
    refine sa_copyBlock o b g us2 (F + b) _ M N ls2 ho (by omega) (by omega) (by omega) hP2 (fun src' => ?_)
    dsimp only
    obtain ⟨ms', hW', hlen⟩ := sa_WI_s hW rfl (ls2 b) h3.1 (sa_EB_oth hF h3.2)
    rw [← hlen]
    refine nm_r (nI_1 b) ?_
    exact ih (b + 1) m src' _ _ ms' (by omega) (by omega) hW'
theorem sa_join48 {post : Int32 → SX → Prop} (s o f g us us2 : Nat) (L R M N : Nat → Int32) (ls ls2 : Nat → List Bool) (hs : s < 4) (ho : o < 4) (hP : sa_Pk (sa_lc a_bytes s) us f L R ls) (hP2 : sa_Pk (sa_lc a_bytes o) us2 g M N ls2) (hfg : f + g ≤ 96)
    (H : ∀ (us : Nat) (ms : Nat → List Bool) (size low outBits blocks src ck : Int32) (bs bl br ol or ro res wt out sts : Nat → Int32), sa_By out → sa_ou bs a_bytes s → sa_Pk (sa_lc bs s) us (f + g) (sa_jn f L M) (sa_jn f R N) ms → sa_ck (sa_lc bs s) us →
      post (nI (f + g)) (f_length, size, low, outBits, blocks, src, ck, a_left, a_right, bs, upd a_used s (nI us), upd a_turnedBit s (-1), bl, br, ol, or, ro, res, wt, out, sts)) :
    ∀ (d b m : Nat) (src : Int32) (out sts : Nat → Int32) (ms : Nat → List Bool), b + d = f / 16 → d < m → sa_WI out sts (sa_jn f L M) (sa_jn f R N) (f + g) b ms →
    wX_join_48 post (nI s) (nI o) (nI f) (nI g) m (nI b) f_length f_size f_low (nI (sa_cat ms b).length) (nI b) src f_check a_left a_right a_bytes a_used a_turnedBit a_blockLeft a_blockRight a_otherLeft a_otherRight a_row a_residue a_weight out sts := by
  have hsm := sa_jn_sm (f := f) (g := g) hP.2.2.2.2.2.2.2 hP2.2.2.2.2.2.2.2
  have e16 : nI f / (16 : Int32) = nI (f / 16) := pk_div (d := 16) (by omega) (by omega) (by omega)
  have er : nI f - nI (f / 16) * (16 : Int32) = nI (f % 16) := by rw [← e16]; exact pk_rem (d := 16) (by omega) (by omega) (by omega)
  intro d
  induction d with
  | zero =>
    intro b m src out sts ms hb hm hW
    obtain ⟨m, rfl⟩ : ∃ w, m = w + 1 := ⟨m - 1, by omega⟩
    obtain rfl : b = f / 16 := by omega
    refine ⟨by decide, ?_⟩
    rw [e16, er]
    refine br_t (Int32.le_refl _) ⟨by decide, pk_eq (f % 16) 0 (fun h0 => ⟨7, ?_⟩) (fun h0 => ?_)⟩
    · have hnb : sa_nb g ≤ 6 := sa_nb_le (Nat.le_refl (sa_nb g)) (by omega)
      exact sa_join82 s o (f / 16) f g us us2 L R M N ls ls2 hs ho (by omega) hP hP2 hfg (fun us ms ob bk sr ck bs out sts h1 h2 h3 h4 => H us ms _ _ ob bk sr ck bs _ _ _ _ _ _ _ out sts h1 h2 h3 h4) (sa_nb g) 0 7 src out sts ms (by omega) (by omega) hW
    · have ebeg : nI f - nI (f % 16) = nI (16 * (f / 16)) := by
        rw [pk_sub (Nat.mod_le _ _)]
        exact congrArg nI (by omega)
      rw [nI_add]
      unfold wpX_writeJoined
      dsimp only
      refine ⟨by decide, nm_r (e' := nI (16 * (f / 16))) (by rw [e16, er, ebeg]) ⟨7, ?_⟩⟩
      have hk6 := sa_nb_le (Nat.le_refl (sa_nb (f + g))) hfg
      have hfn : f / 16 ≤ sa_nb (f + g) := by unfold sa_nb; omega
      refine sa_wj12 s o f g us us2 L R M N ls ls2 hs ho hP hP2 hfg (fun size low sr bl br ol or ro res wt out sts ms hW => ?_) (sa_nb (f + g) - f / 16) (f / 16) 7 _ _ _ _ _ _ _ _ _ _ _ _ ms (by omega) (by omega) hW
      dsimp only
      exact sa_join121 s f g _ _ _ ms hs hfg rfl hW hsm (fun us ms ob bk ck bs sts h1 h2 h3 h4 => H us ms _ _ ob bk _ ck bs _ _ _ _ _ _ _ out sts h1 h2 h3 h4)
  | succ d ih =>
    intro b m src out sts ms hb hm hW
    obtain ⟨m, rfl⟩ : ∃ w, m = w + 1 := ⟨m - 1, by omega⟩
    have hbn : b < sa_nb f := by unfold sa_nb; omega
    have hle := sa_WI_le hW b (Nat.le_refl _)
    have h3 := hP.2.2.1 b hbn
    refine ⟨by decide, ?_⟩
    rw [e16]
    refine br_f (nI_ge (by omega) (by omega)) ?_
    refine sa_copyBlock s b f us b _ L R ls hs hbn (by omega) (by omega) hP (fun src' => ?_)
    dsimp only
    obtain ⟨ms', hW', hlen⟩ := sa_WI_s hW rfl (ls b) h3.1 (sa_EB_own (by omega) h3.2)
    rw [← hlen]
    refine nm_r (nI_1 b) ?_
    exact ih (b + 1) m src' _ _ ms' (by omega) (by omega) hW'
theorem sa_yjoin58 {post : Int32 → SY → Prop} (s o f g : Nat) (hs : s < 4) (ho : o < 4) (hfg : f + g ≤ 96) (hso : s ≠ o ∨ g ≤ f)
    (H : ∀ sm, (∀ i, i < g → sm (192 * (s + 1) + (f + i)) = a_samples (192 * (o + 1) + i) ∧ sm (192 * (s + 1) + (96 + (f + i))) = a_samples (192 * (o + 1) + (96 + i))) →
      (∀ j, ¬ (192 * (s + 1) + f ≤ j ∧ j < 192 * (s + 1) + (f + g)) → ¬ (192 * (s + 1) + (96 + f) ≤ j ∧ j < 192 * (s + 1) + (96 + (f + g))) → sm j = a_samples j) → post (nI (f + g)) (upd a_lengths (s + 1) (nI (f + g)), sm, a_states)) :
    ∀ (d i m : Nat) (sm : Nat → Int32), i + d = g → d < m → (∀ j, j < i → sm (192 * (s + 1) + (f + j)) = a_samples (192 * (o + 1) + j) ∧ sm (192 * (s + 1) + (96 + (f + j))) = a_samples (192 * (o + 1) + (96 + j))) →
      (∀ j, ¬ (192 * (s + 1) + f ≤ j ∧ j < 192 * (s + 1) + (f + i)) → ¬ (192 * (s + 1) + (96 + f) ≤ j ∧ j < 192 * (s + 1) + (96 + (f + i))) → sm j = a_samples j) →
    wY_join_58 post (nI (s + 1)) (nI (o + 1)) (nI f) (nI g) m (nI i) a_lengths sm a_states := by
  intro d
  induction d with
  | zero =>
    intro i m sm hi hm h1 h2
    obtain ⟨m, rfl⟩ : ∃ w, m = w + 1 := ⟨m - 1, by omega⟩
    obtain rfl : i = g := by omega
    refine br_t (Int32.le_refl _) ?_
    rw [nI_add, nI_clamp (by omega)]
    exact ⟨vp_in_nI (by omega) (by omega), nm_e (H sm h1 h2)⟩
  | succ d ih =>
    intro i m sm hi hm h1 h2
    obtain ⟨m, rfl⟩ : ∃ w, m = w + 1 := ⟨m - 1, by omega⟩
    have e1 : (192 : Int32) * nI (o + 1) = nI (192 * (o + 1)) := pk_mul 192 _
    have e2 : (192 : Int32) * nI (s + 1) = nI (192 * (s + 1)) := pk_mul 192 _
    have e3 : nI (192 * (s + 1)) + nI f + nI i = nI (192 * (s + 1) + (f + i)) := by rw [nI_add, nI_add, Nat.add_assoc]
    have e4 : nI (192 * (o + 1)) + 96 + nI i = nI (192 * (o + 1) + (96 + i)) := by rw [show nI (192 * (o + 1)) + 96 = nI (192 * (o + 1) + 96) from nI_add _ 96, nI_add, Nat.add_assoc]
    have e5 : nI (192 * (s + 1)) + 96 + nI f + nI i = nI (192 * (s + 1) + (96 + (f + i))) := by
      rw [show nI (192 * (s + 1)) + 96 = nI (192 * (s + 1) + 96) from nI_add _ 96, nI_add, nI_add]
      exact congrArg nI (by omega)
    refine br_f (nI_ge (by omega) (by omega)) ?_
    rw [e1, e2, e3, e5, e4, nI_add, nI_clamp (by omega), nI_clamp (by omega), nI_clamp (by omega), nI_clamp (by omega)]
    refine ⟨vp_in_nI (by omega) (by omega), vp_in_nI (by omega) (by omega), nm_e ⟨vp_in_nI (by omega) (by omega), vp_in_nI (by omega) (by omega), nm_e (nm_r (nI_1 i) (ih (i + 1) m _ (by omega) (by omega) (fun j hj => ?_) (fun j k1 k2 => ?_)))⟩⟩
    · by_cases ej : j = i
      · subst ej
        rw [pk_un (by omega), pk_us, pk_us, pk_un (by omega)]
        exact ⟨h2 _ (by omega) (by omega), h2 _ (by omega) (by omega)⟩
      · rw [pk_un (by omega), pk_un (by omega), pk_un (by omega), pk_un (by omega)]
        exact h1 j (by omega)
    · rw [pk_un (by omega), pk_un (by omega)]
      exact h2 j (by omega) (by omega)
end
theorem i_vc_join {k : Nat} {u : SX} {v : SY} (I : i_Rel k u v) (hk : k + 5 ≤ 2560) (v1 : Int32) (v2 : Int32) : wpX_join (fun r u' => wpY_join (fun r' v' => r' = r ∧ i_Rel (k + 5) u' v') v v1 v2) u v1 v2 := by
  obtain ⟨f_length, f_size, f_low, f_outBits, f_blocks, f_source, f_check, a_left, a_right, a_bytes, a_used, a_turnedBit, a_blockLeft, a_blockRight, a_otherLeft, a_otherRight, a_row, a_residue, a_weight, a_out, a_starts⟩ := u
  obtain ⟨a_lengths, a_samples, a_states⟩ := v
  have I2 := I
  obtain ⟨⟨n, hn, rfl, hl, hH⟩, hby, hS⟩ := I2
  unfold wpX_join
  dsimp only
  rcases sa_both (f_length := nI n) (f_size := f_size) (f_low := f_low) (f_outBits := f_outBits) (f_blocks := f_blocks) (f_source := f_source) (f_check := f_check) (a_left := a_left) (a_right := a_right) (a_blockLeft := a_blockLeft) (a_blockRight := a_blockRight) (a_otherLeft := a_otherLeft) (a_otherRight := a_otherRight) (a_row := a_row) (a_residue := a_residue) (a_weight := a_weight) (a_out := a_out) (a_starts := a_starts) hS v1 v2 with ⟨r, r0, r1, hX, hY⟩ | ⟨s, o, us, f, ls, us2, g, ls2, hs, ho, rfl, rfl, hst, hf, hP, hg, hP2, hX, hY⟩
  · have hYs : ∀ post : Int32 → SY → Prop, post r (a_lengths, a_samples, a_states) → wpY_join post (a_lengths, a_samples, a_states) v1 v2 := fun post h => by
      unfold wpY_join
      dsimp only
      exact hY _ (br_f r1 h)
    exact hX _ (fun c => br_f r0 (hYs _ ⟨rfl, I⟩))
  · have hf96 := hP.1
    have hg96 := hP2.1
    have hYs : ∀ post : Int32 → SY → Prop, ((nI (f + g) ≤ 96 → ∃ n58, wY_join_58 post (nI (s + 1)) (nI (o + 1)) (nI f) (nI g) n58 0 a_lengths a_samples a_states) ∧ (¬ nI (f + g) ≤ 96 → post (-5004) (a_lengths, a_samples, a_states))) → wpY_join post (a_lengths, a_samples, a_states) (nI s) (nI o) := fun post h => by
      unfold wpY_join
      dsimp only
      refine hY _ (br_t rfl (nm_r (nI_1 s) (nm_r (nI_1 o) ⟨vp_in_nI (by omega) (by omega), nm_r (e' := nI f) (by rw [nI_clamp (by omega), hf]) ⟨vp_in_nI (by omega) (by omega), nm_r (e' := nI g) (by rw [nI_clamp (by omega), hg]) ?_⟩⟩)))
      rw [nI_add]
      exact h
    refine hX _ (fun c => br_t (by decide) ?_)
    dsimp only
    refine sa_momentsOf s f hs hP.2.1 ?_
    refine sa_momentsOf o g ho hP2.2.1 ?_
    rw [nI_add]
    refine pk_le (f + g) 96 (fun hfg => ?_) (fun hfg => hYs _ (br_f (nI_ge (a := 96) hfg (by omega)) ⟨rfl, I⟩))
    unfold wpX_beginBlocks
    dsimp only
    refine ⟨7, sa_join48 s o f g us us2 _ _ _ _ ls ls2 hs ho hP hP2 hfg (fun us' ms size low ob bk sr ck bs bl br ol or ro res wt out sts hby' hou hPk hck => ?_) (f / 16) 0 7 _ _ _ (fun _ => []) (by omega) (by omega) (sa_WI_0 hby)⟩
    refine hYs _ (br_t (nI_le (b := 96) hfg (by omega)) ⟨g + 1, ?_⟩)
    have hso : s ≠ o ∨ g ≤ f := by
      by_cases e : s = o
      · subst e
        have := (nI_eq (by omega) (by omega)).mp (hf.symm.trans hg)
        exact Or.inr (by omega)
      · exact Or.inl e
    refine sa_yjoin58 s o f g hs ho hfg hso (fun sm k1 k2 => ?_) g 0 (g + 1) a_samples (by omega) (by omega) (fun j hj => absurd hj (by omega)) (fun _ _ _ => rfl)
    refine ⟨rfl, ⟨n, hn, rfl, by rw [pk_un (by omega)]; exact hl, fun i hi => ?_⟩, hby', ?_⟩
    · rw [k2 i (by omega) (by omega), k2 (96 + i) (by omega) (by omega)]
      exact hH i hi
    · refine sa_SS_u s hS (sa_ou_lc hou) (fun r hr => pk_un hr) (fun r hr => pk_un hr) (fun _ _ => rfl) (fun r hr => pk_un (by omega)) (fun r hr i hi => k2 _ (by omega) (by omega)) ?_
      rw [pk_us, pk_us, pk_us, hst]
      refine Or.inr (Or.inl ⟨rfl, us', f + g, ms, rfl, rfl, rfl, sa_Pk_c (fun _ _ => rfl) (fun i hi => ?_) hPk, hck⟩)
      by_cases h : i < f
      · rw [sa_jn_lo h, sa_jn_lo h, k2 _ (by omega) (by omega), k2 _ (by omega) (by omega)]
        exact ⟨rfl, rfl⟩
      · have a := k1 (i - f) (by omega)
        rw [show f + (i - f) = i from by omega] at a
        rw [sa_jn_hi (by omega), sa_jn_hi (by omega)]
        exact ⟨a.1.symm, a.2.symm⟩
end
