section
/-! rows of the kit (PURE-ROWS, BITS: to paste), as they stand there -/
theorem pk_us {f : Nat → Int32} {k : Nat} {x : Int32} : upd f k x k = x := if_pos rfl
theorem pk_un {f : Nat → Int32} {k j : Nat} {x : Int32} (h : j ≠ k) : upd f k x j = f j := if_neg h
theorem pk_uLs {f : Nat → Int64} {k : Nat} {x : Int64} : vp_updL f k x k = x := if_pos rfl
theorem pk_uLn {f : Nat → Int64} {k j : Nat} {x : Int64} (h : j ≠ k) : vp_updL f k x j = f j := if_neg h
theorem pk_sub {a b : Nat} (h : b ≤ a) : nI a - nI b = nI (a - b) := by
  obtain ⟨c, rfl⟩ : ∃ c, a = c + b := ⟨a - b, by omega⟩
  rw [← nI_add, Int32.add_sub_cancel, Nat.add_sub_cancel]
theorem pk_m1 (n : Nat) : nI (n + 1) + (-1) = nI n := by
  rw [← nI_1, Int32.add_assoc, show (1 : Int32) + (-1) = 0 from rfl, Int32.add_zero]
theorem pk_mul (a b : Nat) : nI a * nI b = nI (a * b) := (Int32.ofNat_mul a b).symm
theorem pk_div {a d : Nat} (ha : a < 2 ^ 31) (h0 : 0 < d) (hd : d < 2 ^ 31) : nI a / nI d = nI (a / d) := by
  apply Int32.toInt_inj.mp
  rw [lg_idiv_nonneg (by rw [nI_toInt ha]; omega) (by rw [nI_toInt hd]; omega), nI_toInt ha, nI_toInt hd, nI_toInt (Nat.lt_of_le_of_lt (Nat.div_le_self a d) ha)]
  first | rfl | exact (Int.natCast_ediv _ _).symm
theorem pk_rem {a d : Nat} (ha : a < 2 ^ 31) (h0 : 0 < d) (hd : d < 2 ^ 31) : nI a - nI a / nI d * nI d = nI (a % d) := by
  rw [pk_div ha h0 hd, pk_mul, pk_sub (Nat.div_mul_le_self a d)]
  exact congrArg nI (by have := Nat.div_add_mod' a d; omega)
theorem pk_sub_toInt {a b : Nat} (ha : a < 2 ^ 30) (hb : b < 2 ^ 30) : (nI a - nI b).toInt = (a : Int) - b := by
  rw [Int32.toInt_sub, nI_toInt (by omega), nI_toInt (by omega)]
  exact Int.bmod_eq_of_le (by omega) (by omega)
theorem pk_sneg {a b : Nat} (hb : b < 2 ^ 30) (h : a < b) : nI a - nI b < 0 := by
  rw [Int32.lt_iff_toInt_lt, pk_sub_toInt (by omega) hb, show (0 : Int32).toInt = 0 from by decide]
  omega
theorem pk_ix (x : Int32) {n : Nat} (hn : n < 2 ^ 31) : x < 0 ∨ nI n ≤ x ∨ ∃ j : Nat, j < n ∧ x = nI j := by
  by_cases h : x < 0
  · exact Or.inl h
  · obtain ⟨j, hj, rfl⟩ := nI_of h
    by_cases h2 : j < n
    · exact Or.inr (Or.inr ⟨j, h2, rfl⟩)
    · exact Or.inr (Or.inl (nI_le (by omega) hj))
theorem pk_le {x y : Int32} {A B : Prop} (a b : Nat) (f : a ≤ b → A) (g : b < a → B) (hx : x = nI a := by rfl) (hy : y = nI b := by rfl) (ha : a < 2 ^ 31 := by omega) (hb : b < 2 ^ 31 := by omega) : (x ≤ y → A) ∧ (¬ x ≤ y → B) := by
  subst hx hy
  rw [nI_leI ha hb]
  exact ⟨f, fun z => g (by omega)⟩
theorem pk_lt {x y : Int32} {A B : Prop} (a b : Nat) (f : a < b → A) (g : b ≤ a → B) (hx : x = nI a := by rfl) (hy : y = nI b := by rfl) (ha : a < 2 ^ 31 := by omega) (hb : b < 2 ^ 31 := by omega) : (x < y → A) ∧ (¬ x < y → B) := by
  subst hx hy
  rw [nI_ltI ha hb]
  exact ⟨f, fun z => g (by omega)⟩
theorem pk_eq {x y : Int32} {A B : Prop} (a b : Nat) (f : a = b → A) (g : a ≠ b → B) (hx : x = nI a := by rfl) (hy : y = nI b := by rfl) (ha : a < 2 ^ 31 := by omega) (hb : b < 2 ^ 31 := by omega) : (x = y → A) ∧ (¬ x = y → B) := by
  subst hx hy
  rw [nI_eq ha hb]
  exact ⟨f, g⟩
theorem pk_in {x : Int32} (n N : Nat) (h : n < N) (hx : x = nI n := by rfl) (hN : N < 2 ^ 31 := by omega) : vp_in x N := by
  subst hx
  exact vp_in_nI h hN
theorem pk_cl {x : Int32} (n : Nat) (hx : x = nI n := by rfl) (h : n < 2 ^ 31 := by omega) : x.toNatClampNeg = n := by
  subst hx
  exact nI_clamp h
theorem pk_tn {n : Nat} (h : n < 2 ^ 32) : (nI n).toBitVec.toNat = n := Nat.mod_eq_of_lt h
theorem pk_and (x : Int32) {m : Int32} (k : Nat) (hm : m.toBitVec.toNat = 2 ^ k - 1) : x &&& m = nI (x.toBitVec.toNat % 2 ^ k) := by
  apply Int32.toBitVec_inj.mp
  apply BitVec.eq_of_toNat_eq
  rw [Int32.toBitVec_and, BitVec.toNat_and, hm, Nat.and_two_pow_sub_one_eq_mod]
  show _ = (BitVec.ofNat 32 _).toNat
  rw [BitVec.toNat_ofNat]
  exact (Nat.mod_eq_of_lt (Nat.lt_of_le_of_lt (Nat.mod_le _ _) x.toBitVec.isLt)).symm
theorem pk_andN {n : Nat} (h : n < 2 ^ 32) {m : Int32} (k : Nat) (hm : m.toBitVec.toNat = 2 ^ k - 1) : nI n &&& m = nI (n % 2 ^ k) := by
  rw [pk_and _ k hm, pk_tn h]
theorem pk_andE (x : Int32) {m : Int32} (k : Nat) (hm : m.toBitVec.toNat = 2 ^ k - 1) : ∃ j : Nat, j < 2 ^ k ∧ x &&& m = nI j := ⟨_, Nat.mod_lt _ (Nat.two_pow_pos k), pk_and x k hm⟩
theorem pk_nb (z : Int32) : narrow .byte (.int z.toInt8.toInt32) = .int z.toInt8.toInt32 := congrArg Value.int (by simp)
theorem pk_ns (z : Int32) : narrow .short (.int z.toInt16.toInt32) = .int z.toInt16.toInt32 := congrArg Value.int (by simp)
theorem pk_vb (z : Int32) : vp_nar .byte z.toInt8.toInt32 = z.toInt8.toInt32 := by rw [vp_nar_byte]; simp
theorem pk_vs (z : Int32) : vp_nar .short z.toInt16.toInt32 = z.toInt16.toInt32 := by rw [vp_nar_short]; simp
/-! ===== Int32 by its bits: bt x i ===== -/
def bt (x : Int32) (i : Nat) : Bool := x.toBitVec.getLsbD i
theorem b_ext {x y : Int32} (h : ∀ i, i < 32 → bt x i = bt y i) : x = y := Int32.toBitVec_inj.mp (BitVec.eq_of_getLsbD_eq (fun i hi => h i hi))
theorem b_or (x y : Int32) (i : Nat) : bt (x ||| y) i = (bt x i || bt y i) := by unfold bt; rw [Int32.toBitVec_or, BitVec.getLsbD_or]
theorem b_and (x y : Int32) (i : Nat) : bt (x &&& y) i = (bt x i && bt y i) := by unfold bt; rw [Int32.toBitVec_and, BitVec.getLsbD_and]
theorem b_xor (x y : Int32) (i : Nat) : bt (x ^^^ y) i = (bt x i ^^ bt y i) := by unfold bt; rw [Int32.toBitVec_xor, BitVec.getLsbD_xor]
theorem b_big {x : Int32} {i : Nat} (h : 32 ≤ i) : bt x i = false := BitVec.getLsbD_of_ge _ _ h
theorem b_255 (i : Nat) : bt 255 i = decide (i < 8) := by
  rcases Nat.lt_or_ge i 32 with h | h
  · exact (by decide +kernel : ∀ i, i < 32 → bt 255 i = decide (i < 8)) i h
  · rw [b_big h, decide_eq_false (by omega)]
theorem b_65535 (i : Nat) : bt 65535 i = decide (i < 16) := by
  rcases Nat.lt_or_ge i 32 with h | h
  · exact (by decide +kernel : ∀ i, i < 32 → bt 65535 i = decide (i < 16)) i h
  · rw [b_big h, decide_eq_false (by omega)]
theorem b_m1 : ∀ i, i < 32 → bt (-1) i = true := by decide +kernel
theorem b_0 (i : Nat) : bt 0 i = false := BitVec.getLsbD_zero
theorem s_l : ∀ n, n < 32 → ((nI n &&& 31).toBitVec.smod 32).toNat = n := by decide +kernel
theorem s_u : ∀ n, n < 32 → (((nI n).toUInt32 &&& Int32.toUInt32 31).toBitVec % 32).toNat = n := by decide +kernel
theorem b_shl (n : Nat) (hn : n < 32) (x : Int32) {i : Nat} (hi : i < 32) : bt (x <<< (nI n &&& 31)) i = (decide (n ≤ i) && bt x (i - n)) := by
  unfold bt
  rw [Int32.toBitVec_shiftLeft]
  show (x.toBitVec <<< ((nI n &&& 31).toBitVec.smod 32).toNat).getLsbD i = _
  rw [s_l n hn, BitVec.getLsbD_shiftLeft]
  rcases Nat.lt_or_ge i n with h | h
  · simp [h, Nat.not_le.mpr h]
  · simp [hi, h, Nat.not_lt.mpr h]
theorem b_ushr (n : Nat) (hn : n < 32) (x : Int32) (i : Nat) : bt ((x.toUInt32 >>> ((nI n).toUInt32 &&& Int32.toUInt32 31)).toInt32) i = bt x (n + i) := by
  show (x.toUInt32 >>> ((nI n).toUInt32 &&& Int32.toUInt32 31)).toBitVec.getLsbD i = x.toUInt32.toBitVec.getLsbD (n + i)
  rw [UInt32.toBitVec_shiftRight]
  show (x.toUInt32.toBitVec >>> (((nI n).toUInt32 &&& Int32.toUInt32 31).toBitVec % 32).toNat).getLsbD i = _
  rw [s_u n hn, BitVec.getLsbD_ushiftRight]
theorem b_sshr (n : Nat) (hn : n < 32) (x : Int32) {i : Nat} (hi : i < 32) : bt (x >>> (nI n &&& 31)) i = if n + i < 32 then bt x (n + i) else bt x 31 := by
  unfold bt
  rw [Int32.toBitVec_shiftRight]
  show (x.toBitVec.sshiftRight ((nI n &&& 31).toBitVec.smod 32).toNat).getLsbD i = _
  rw [s_l n hn, BitVec.getLsbD_sshiftRight, BitVec.msb_eq_getLsbD_last]
  simp [hi]
theorem b_shl8 (x : Int32) {i : Nat} (hi : i < 32) : bt (x <<< ((8 : Int32) &&& 31)) i = (decide (8 ≤ i) && bt x (i - 8)) := b_shl 8 (by omega) x hi
theorem b_shl16 (x : Int32) {i : Nat} (hi : i < 32) : bt (x <<< ((16 : Int32) &&& 31)) i = (decide (16 ≤ i) && bt x (i - 16)) := b_shl 16 (by omega) x hi
theorem b_shl24 (x : Int32) {i : Nat} (hi : i < 32) : bt (x <<< ((24 : Int32) &&& 31)) i = (decide (24 ≤ i) && bt x (i - 24)) := b_shl 24 (by omega) x hi
theorem b_sshr8 (x : Int32) {i : Nat} (hi : i < 32) : bt (x >>> ((8 : Int32) &&& 31)) i = if 8 + i < 32 then bt x (8 + i) else bt x 31 := b_sshr 8 (by omega) x hi
end
section
/-! bits, sets of places as bits, lists -/
theorem tp_b1 : ∀ i, i < 32 → bt 1 i = decide (i = 0) := by decide +kernel
theorem tp_bit (x : Int32) {j : Nat} (hj : j < 32) : ((x >>> (nI j &&& 31)) &&& 1) = 0 ↔ bt x j = false := by
  have h0 : bt ((x >>> (nI j &&& 31)) &&& 1) 0 = bt x j := by
    rw [b_and, b_sshr j hj x (by omega), tp_b1 0 (by omega), if_pos (by omega)]
    simp
  constructor
  · intro h
    rw [h, b_0] at h0
    exact h0.symm
  · intro h
    apply b_ext
    intro i hi
    rw [b_0]
    by_cases z : i = 0
    · subst z
      rw [h0, h]
    · rw [b_and, tp_b1 i hi, decide_eq_false z, Bool.and_false]
theorem tp_bitT (x : Int32) {j : Nat} (hj : j < 32) : ¬ ((x >>> (nI j &&& 31)) &&& 1) = 0 ↔ bt x j = true := by
  rw [tp_bit x hj]
  cases bt x j <;> simp
theorem tp_one {j : Nat} (hj : j < 32) {i : Nat} (hi : i < 32) : bt ((1 : Int32) <<< (nI j &&& 31)) i = decide (i = j) := by
  rw [b_shl j hj 1 hi, tp_b1 (i - j) (by omega)]
  by_cases h : i = j
  · subst h
    simp
  · rw [decide_eq_false h]
    by_cases h2 : j ≤ i
    · rw [decide_eq_false (show ¬ i - j = 0 by omega), Bool.and_false]
    · rw [decide_eq_false h2, Bool.false_and]
theorem tp_not (x : Int32) {i : Nat} (hi : i < 32) : bt (x ^^^ (-1)) i = !bt x i := by
  rw [b_xor, b_m1 i hi]
  cases bt x i <;> rfl
theorem tp_zero (x : Int32) : x = 0 ↔ ∀ i, i < 32 → bt x i = false := by
  constructor
  · intro h i hi
    rw [h, b_0]
  · intro h
    exact b_ext fun i hi => by rw [h i hi, b_0]
theorem tp_nz {x : Int32} {i : Nat} (h : bt x i = true) : ¬ x = 0 := by
  intro z
  rw [z, b_0] at h
  exact Bool.noConfusion h
theorem tp_andn (x y : Int32) {i : Nat} (hi : i < 32) : bt (x &&& (y ^^^ (-1))) i = (bt x i && !bt y i) := by
  rw [b_and, tp_not y hi]
theorem tp_low : ∀ (f n : Nat), n < f → 0 < n → ∃ j, n.testBit j = true ∧ ∀ i, (n &&& (n - 1)).testBit i = (n.testBit i && decide (i ≠ j)) := by
  intro f
  induction f with
  | zero => intro n h; omega
  | succ f ih =>
    intro n h h0
    by_cases ho : n % 2 = 1
    · refine ⟨0, by rw [Nat.testBit_zero, decide_eq_true ho], fun i => ?_⟩
      rw [Nat.testBit_and]
      cases i with
      | zero =>
        rw [Nat.testBit_zero, Nat.testBit_zero, decide_eq_false (show ¬ (n - 1) % 2 = 1 by omega)]
        simp
      | succ i =>
        rw [Nat.testBit_succ, Nat.testBit_succ, show (n - 1) / 2 = n / 2 by omega]
        simp
    · obtain ⟨j, hj, hi⟩ := ih (n / 2) (by omega) (by omega)
      refine ⟨j + 1, by rw [Nat.testBit_succ]; exact hj, fun i => ?_⟩
      cases i with
      | zero =>
        rw [Nat.testBit_and, Nat.testBit_zero, decide_eq_false ho]
        simp
      | succ i =>
        have e := hi i
        rw [Nat.testBit_and] at e
        rw [Nat.testBit_and, Nat.testBit_succ, Nat.testBit_succ, show (n - 1) / 2 = n / 2 - 1 by omega, e]
        simp
theorem tp_lowI (x : Int32) (h : ¬ x = 0) : ∃ j, j < 32 ∧ bt x j = true ∧ ∀ i, i < 32 → bt (x &&& (x - 1)) i = (bt x i && decide (i ≠ j)) := by
  have hn : 0 < x.toBitVec.toNat := by
    apply Nat.pos_of_ne_zero
    intro z
    exact h (Int32.toBitVec_inj.mp (BitVec.eq_of_toNat_eq z))
  have hl := x.toBitVec.isLt
  have e1 : (x - 1).toBitVec.toNat = x.toBitVec.toNat - 1 := by
    rw [Int32.toBitVec_sub, BitVec.toNat_sub, show (1 : Int32).toBitVec.toNat = 1 from rfl]
    omega
  obtain ⟨j, hj, hi⟩ := tp_low _ x.toBitVec.toNat (Nat.lt_succ_self _) hn
  refine ⟨j, ?_, hj, fun i _ => ?_⟩
  · apply Nat.lt_of_not_le
    intro q
    have z : bt x j = true := hj
    rw [b_big q] at z
    exact Bool.noConfusion z
  · show (x &&& (x - 1)).toBitVec.toNat.testBit i = (x.toBitVec.toNat.testBit i && _)
    rw [Int32.toBitVec_and, BitVec.toNat_and, e1, hi]
/-- the bits of S are the numbers of m -/
def tp_SL (m : List Nat) (S : Int32) : Prop := ∀ i, i < 32 → (bt S i = true ↔ i ∈ m)
/-- the bits of S are the numbers of l with P -/
def tp_SP (l : List Nat) (P : Nat → Prop) (S : Int32) : Prop := ∀ i, i < 32 → (bt S i = true ↔ i ∈ l ∧ P i)
theorem tp_SP_SL {l : List Nat} {p : Nat → Bool} {S : Int32} (h : tp_SP l (fun s => p s = true) S) : tp_SL (l.filter p) S :=
  fun i hi => (h i hi).trans List.mem_filter.symm
theorem tp_SL_nil {S : Int32} (h : tp_SL [] S) : S = 0 := by
  rw [tp_zero]
  intro i hi
  cases z : bt S i
  · rfl
  · exact absurd ((h i hi).mp z) (by simp)
theorem tp_SL_cons {S : Int32} {s : Nat} {m : List Nat} (hs : s < 32) (h : tp_SL (s :: m) S) : ¬ S = 0 :=
  tp_nz ((h s hs).mpr (by simp))
theorem tp_SL_tail {S : Int32} {s : Nat} {m : List Nat} (hs : s < 32) (nd : (s :: m).Nodup) (h : tp_SL (s :: m) S) : tp_SL m (S &&& (((1 : Int32) <<< (nI s &&& 31)) ^^^ (-1))) := by
  intro i hi
  rw [tp_andn _ _ hi, tp_one hs hi]
  have q := h i hi
  have nd' := (List.nodup_cons.mp nd).1
  rw [List.mem_cons] at q
  by_cases e : i = s
  · subst e
    simp [nd']
  · simp [e, q]
theorem tp_nodup_lt {l : List Nat} {n : Nat} (nd : l.Nodup) (h : ∀ s, s ∈ l → s < n) : l.length ≤ n := by
  have q := nd.length_le_of_subset (l₂ := List.range n) (fun s hs => List.mem_range.mpr (h s hs))
  rwa [List.length_range] at q
theorem tp_full {l : List Nat} {n : Nat} (h : ∀ s, s < n → s ∈ l) : n ≤ l.length := by
  have q := (List.nodup_range (n := n)).length_le_of_subset (l₂ := l) (fun s hs => h s (List.mem_range.mp hs))
  rwa [List.length_range] at q
/-- 0 .. 3 only -/
theorem tp_mask (m : Int32) {c : Nat} (hc : c < 32) : (m &&& (((1 : Int32) <<< (nI c &&& 31)) ^^^ (-1))) = 0 ↔ ∀ i, i < 32 → i ≠ c → bt m i = false := by
  rw [tp_zero]
  constructor
  · intro h i hi hn
    have q := h i hi
    rw [tp_andn _ _ hi, tp_one hc hi, decide_eq_false hn] at q
    simpa using q
  · intro h i hi
    rw [tp_andn _ _ hi, tp_one hc hi]
    by_cases e : i = c
    · simp [e]
    · rw [h i hi e, Bool.false_and]
/-- what an array is after the places i .. k - 1 have taken what stood behind them -/
def tp_sh (a : Nat → Int32) (i k : Nat) : Nat → Int32 := fun j => if i ≤ j ∧ j < k then a (j + 1) else a j
theorem tp_sh0 (a : Nat → Int32) (i : Nat) : tp_sh a i i = a := by
  funext j
  unfold tp_sh
  rw [if_neg (by omega)]
theorem tp_shS (a : Nat → Int32) {i k : Nat} (h : i ≤ k) : upd (tp_sh a i k) k (tp_sh a i k (k + 1)) = tp_sh a i (k + 1) := by
  funext j
  unfold upd tp_sh
  by_cases e : j = k
  · subst e
    rw [if_pos rfl, if_neg (by omega), if_pos (by omega)]
  · rw [if_neg e]
    by_cases e2 : i ≤ j ∧ j < k
    · rw [if_pos e2, if_pos (by omega)]
    · rw [if_neg e2, if_neg (by omega)]
/-- what an array of sets is after its first k have lost S -/
def tp_cl (a : Nat → Int32) (S : Int32) (k : Nat) : Nat → Int32 := fun j => if j < k then a j &&& (S ^^^ (-1)) else a j
theorem tp_cl0 (a : Nat → Int32) (S : Int32) : tp_cl a S 0 = a := by
  funext j
  unfold tp_cl
  rw [if_neg (by omega)]
theorem tp_clS (a : Nat → Int32) (S : Int32) (k : Nat) : upd (tp_cl a S k) k (tp_cl a S k k &&& (S ^^^ (-1))) = tp_cl a S (k + 1) := by
  funext j
  unfold upd tp_cl
  by_cases e : j = k
  · subst e
    rw [if_pos rfl, if_neg (by omega), if_pos (by omega)]
  · rw [if_neg e]
    by_cases e2 : j < k
    · rw [if_pos e2, if_pos (by omega)]
    · rw [if_neg e2, if_neg (by omega)]
theorem tp_cl_lt {a : Nat → Int32} {S : Int32} {k j : Nat} (h : j < k) : tp_cl a S k j = a j &&& (S ^^^ (-1)) := if_pos h
/-- whether a tuple fits a template's two fields -/
def tp_ft (t a b : Int32) : Bool := (decide (a = 16) || decide (t / 16 = a)) && (decide (b = 16) || decide (t - t / 16 * 16 = b))
def tp_fit (t m : Int32) : Bool := tp_ft t (m / 17) (m - m / 17 * 17)
/-- seen by c: o the owner, k the taker -/
def tp_sn (o k c : Int32) : Bool := decide (k < 0) && (decide (o < 0) || decide (o = c))
def tp_fr (o k m c : Int32) : Bool := tp_sn o k c && decide ((m &&& (((1 : Int32) <<< (c &&& 31)) ^^^ (-1))) = 0)
/-- an entry: its tuple, end, owner, taker, marks -/
abbrev tp_E : Type := Int32 × Int32 × Int32 × Int32 × Int32
def tp_pS (c m : Int32) (e : tp_E) : Bool := tp_fit e.1 m && tp_sn e.2.2.1 e.2.2.2.1 c
def tp_pF (c m : Int32) (e : tp_E) : Bool := tp_fit e.1 m && tp_fr e.2.2.1 e.2.2.2.1 e.2.2.2.2 c
def tp_at (tu en ow tk mk : Nat → Int32) (s : Nat) : tp_E := (tu s, en s, ow s, tk s, mk s)
theorem tp_m1lt : (-1 : Int32) < 0 := by decide
theorem tp_m1ne {c : Nat} (h : c < 2 ^ 31) : ¬ (-1 : Int32) = nI c := by
  intro z
  exact nI_pos h (z ▸ tp_m1lt)
end
section
/-! X's methods that only read -/
section
variable {xU : Int32} {xA : Int64} {xT : Int32} {xW : Int32} {xV : Int32} {xtu : Nat → Int32} {xen : Nat → Int32} {xag : Nat → Int64} {xfi : Nat → Int32} {xse : Nat → Int32} {xit : Nat → Int32} {xpt : Nat → Int32} {xtb : Nat → Int32} {xmb : Nat → Int32} {xgi : Nat → Int32} {xqu : Nat → Int32} {xwh : Nat → Int32} {xwt : Nat → Int32}
theorem tp_ones {post : Int32 → Prop} : ∀ (d : Nat) (m : List Nat) (S : Int32) (r n : Nat), m.length = d → d < n → m.Nodup → (∀ s, s ∈ m → s < 32) → tp_SL m S → post (nI (r + d)) → wX_onesIn_4 post xU xA xT xW xV xtu xen xag xfi xse xit xpt xtb xmb xgi xqu xwh xwt n (nI r) S := by
  intro d
  induction d with
  | zero =>
    intro m S r n hm hn nd hl hS hp
    obtain ⟨n, rfl⟩ : ∃ q, n = q + 1 := ⟨n - 1, by omega⟩
    have e : m = [] := List.eq_nil_of_length_eq_zero hm
    subst e
    exact br_t (tp_SL_nil hS) hp
  | succ d ih =>
    intro m S r n hm hn nd hl hS hp
    obtain ⟨n, rfl⟩ : ∃ q, n = q + 1 := ⟨n - 1, by omega⟩
    have hne : ¬ S = 0 := by
      cases m with
      | nil => simp at hm
      | cons s m => exact tp_SL_cons (hl s (by simp)) hS
    obtain ⟨j, hj, hb, hlow⟩ := tp_lowI S hne
    have hjm := (hS j hj).mp hb
    refine br_f hne (nm_e (nm_r (nI_1 r) (ih (m.erase j) _ (r + 1) n ?_ (by omega) (nd.erase j) ?_ ?_ ?_)))
    · rw [List.length_erase_of_mem hjm, hm]
      omega
    · exact fun s hs => hl s (List.mem_of_mem_erase hs)
    · intro i hi
      rw [hlow i hi, nd.mem_erase_iff, ← hS i hi]
      by_cases e : i = j
      · simp [e]
      · simp [e]
    · rw [show r + 1 + d = r + (d + 1) by omega]
      exact hp
theorem tp_onesIn {post : Int32 → Prop} {m : List Nat} {S : Int32} (nd : m.Nodup) (hl : ∀ s, s ∈ m → s < 32) (hS : tp_SL m S) (hp : post (nI m.length)) : wpX_onesIn post (xU, xA, xT, xW, xV, xtu, xen, xag, xfi, xse, xit, xpt, xtb, xmb, xgi, xqu, xwh, xwt) S :=
  Exists.intro (m.length + 1) (tp_ones m.length m S 0 _ rfl (Nat.lt_succ_self _) nd hl hS (by rw [Nat.zero_add]; exact hp))
theorem tp_f71 {post : Int32 → Prop} {J5 : Int32 → Int32 → Prop} {x1 x2 x3 x4 : Int32} (h : J5 x3 (x4 + 1)) : wX_fittingOneByOne_71 post J5 x1 x2 x3 x4 xU xA xT xW xV xtu xen xag xfi xse xit xpt xtb xmb xgi xqu xwh xwt := br_t rfl (nm_e h)
theorem tp_f67 {post : Int32 → Prop} {J5 : Int32 → Int32 → Prop} {x1 x2 x3 x4 : Int32} (h : J5 (x3 ||| ((1 : Int32) <<< (x4 &&& 31))) (x4 + 1)) : wX_fittingOneByOne_67 post J5 x1 x2 x3 x4 xU xA xT xW xV xtu xen xag xfi xse xit xpt xtb xmb xgi xqu xwh xwt := br_f (by decide) (nm_e (nm_e h))
theorem tp_f47 {post : Int32 → Prop} {J5 : Int32 → Int32 → Prop} {a b x3 : Int32} {j : Nat} (hj : j < 20) (hf : a = 16 ∨ xtu j / 16 = a)
    (h1 : tp_ft (xtu j) a b = true → J5 (x3 ||| ((1 : Int32) <<< (nI j &&& 31))) (nI j + 1)) (h0 : tp_ft (xtu j) a b = false → J5 x3 (nI j + 1)) : wX_fittingOneByOne_47 post J5 a b x3 (nI j) xU xA xT xW xV xtu xen xag xfi xse xit xpt xtb xmb xgi xqu xwh xwt := by
  have e : (nI j).toNatClampNeg = j := nI_clamp (by omega)
  by_cases hb : b = 16
  · exact br_t hb (tp_f67 (h1 (by simp [tp_ft, hb, hf])))
  · refine br_f hb (And.intro (vp_in_nI hj (by decide)) (And.intro (by decide) ?_))
    by_cases ht : xtu j - xtu j / 16 * 16 = b
    · exact br_t (by rw [e]; exact ht) (tp_f67 (h1 (by simp [tp_ft, hf, ht])))
    · exact br_f (by rw [e]; exact ht) (tp_f71 (h0 (by simp [tp_ft, hb, ht])))
theorem tp_obo {post : Int32 → Prop} {l : List Nat} {a b : Int32} (hl : ∀ s, s ∈ l → s < 20) (hU : tp_SL l xU) (hp : ∀ S, tp_SP l (fun i => tp_ft (xtu i) a b = true) S → post S) :
    ∀ (d j : Nat), j + d = 20 → ∀ (S : Int32) (n : Nat), d < n → tp_SP l (fun i => i < j ∧ tp_ft (xtu i) a b = true) S → wX_fittingOneByOne_5 post a b xU xA xT xW xV xtu xen xag xfi xse xit xpt xtb xmb xgi xqu xwh xwt n S (nI j) := by
  intro d
  induction d with
  | zero =>
    intro j hj S n hn hS
    obtain ⟨n, rfl⟩ : ∃ q, n = q + 1 := ⟨n - 1, by omega⟩
    refine br_t (nI_le (a := 20) (by omega) (by omega)) (hp S fun i hi => ?_)
    rw [hS i hi]
    constructor
    · exact fun q => ⟨q.1, q.2.2⟩
    · exact fun q => ⟨q.1, by have := hl i q.1; omega, q.2⟩
  | succ d ih =>
    intro j hj S n hn hS
    obtain ⟨n, rfl⟩ : ∃ q, n = q + 1 := ⟨n - 1, by omega⟩
    have h20 : ¬ (20 : Int32) ≤ nI j := nI_ge (b := 20) (by omega) (by decide)
    have e : (nI j).toNatClampNeg = j := nI_clamp (by omega)
    cases hb : bt xU j
    · refine br_f h20 (br_t ((tp_bit _ (by omega)).mpr hb) (nm_r (nI_1 j) (ih (j + 1) (by omega) S n (by omega) fun i hi => ?_)))
      rw [hS i hi]
      have hn : i ∈ l → i ≠ j := by
        intro q z
        have := (hU i hi).mpr q
        rw [z, hb] at this
        exact Bool.noConfusion this
      constructor
      · exact fun q => ⟨q.1, by omega, q.2.2⟩
      · exact fun q => ⟨q.1, by have := hn q.1; omega, q.2.2⟩
    · have hjl : j ∈ l := (hU j (by omega)).mp hb
      have K1 : tp_ft (xtu j) a b = true → wX_fittingOneByOne_5 post a b xU xA xT xW xV xtu xen xag xfi xse xit xpt xtb xmb xgi xqu xwh xwt n (S ||| ((1 : Int32) <<< (nI j &&& 31))) (nI j + 1) := by
        intro hf
        rw [nI_1]
        refine ih (j + 1) (by omega) _ n (by omega) fun i hi => ?_
        rw [b_or, tp_one (show j < 32 by omega) hi]
        have q := hS i hi
        by_cases z : i = j
        · subst z
          simp [hjl, hf]
        · simp only [z, decide_false, Bool.or_false, q]
          constructor
          · exact fun q => ⟨q.1, by omega, q.2.2⟩
          · exact fun q => ⟨q.1, by omega, q.2.2⟩
      have K0 : tp_ft (xtu j) a b = false → wX_fittingOneByOne_5 post a b xU xA xT xW xV xtu xen xag xfi xse xit xpt xtb xmb xgi xqu xwh xwt n S (nI j + 1) := by
        intro hf
        rw [nI_1]
        refine ih (j + 1) (by omega) _ n (by omega) fun i hi => ?_
        rw [hS i hi]
        by_cases z : i = j
        · subst z
          simp [hf]
        · constructor
          · exact fun q => ⟨q.1, by omega, q.2.2⟩
          · exact fun q => ⟨q.1, by omega, q.2.2⟩
      refine br_f h20 (br_f ((tp_bitT _ (by omega)).mpr hb) ?_)
      by_cases ha : a = 16
      · exact br_t ha (tp_f47 (by omega) (Or.inl ha) K1 K0)
      · refine br_f ha (And.intro (vp_in_nI (by omega) (by decide)) (And.intro (by decide) ?_))
        by_cases ht : xtu j / 16 = a
        · exact br_t (by rw [e]; exact ht) (tp_f47 (by omega) (Or.inr ht) K1 K0)
        · exact br_f (by rw [e]; exact ht) (tp_f71 (K0 (by simp [tp_ft, ha, ht])))
theorem tp_fit47 {post : Int32 → Prop} {l : List Nat} {P : Nat → Prop} {S : Int32} {r : Nat} (hr : r ≤ 16) (hse : ∀ k, k < 16 → tp_SP l (fun s => xtu s - xtu s / 16 * 16 = nI k) (xse k)) (hS : tp_SP l P S)
    (hp : ∀ S, tp_SP l (fun s => P s ∧ (nI r = 16 ∨ xtu s - xtu s / 16 * 16 = nI r)) S → post S) : wX_fitting_47 post (nI r) S xU xA xT xW xV xtu xen xag xfi xse xit xpt xtb xmb xgi xqu xwh xwt := by
  by_cases h : r = 16
  · subst h
    refine br_t rfl (hp S fun i hi => ?_)
    rw [hS i hi]
    exact ⟨fun q => ⟨q.1, q.2, Or.inl rfl⟩, fun q => ⟨q.1, q.2.1⟩⟩
  · have hn : ¬ nI r = 16 := fun z => h ((nI_eq (b := 16) (by omega) (by decide)).mp z)
    refine br_f hn (And.intro (vp_in_nI (by omega) (by decide)) (nm_r (e' := S &&& xse r) (by rw [nI_clamp (by omega)]) (hp _ fun i hi => ?_)))
    rw [b_and, Bool.and_eq_true, hS i hi, hse r (by omega) i hi]
    exact ⟨fun q => ⟨q.1.1, q.1.2, Or.inr q.2.2⟩, fun q => ⟨⟨q.1, q.2.1⟩, q.1, q.2.2.resolve_left hn⟩⟩
theorem tp_fitting {post : Int32 → Prop} {l : List Nat} {q : Nat} (hq : q ≤ 288) (hl : ∀ s, s ∈ l → s < 20) (hU : tp_SL l xU) (hfi : ∀ k, k < 16 → tp_SP l (fun s => xtu s / 16 = nI k) (xfi k)) (hse : ∀ k, k < 16 → tp_SP l (fun s => xtu s - xtu s / 16 * 16 = nI k) (xse k))
    (hp : ∀ S, tp_SP l (fun s => tp_fit (xtu s) (nI q) = true) S → post S) : wpX_fitting post (xU, xA, xT, xW, xV, xtu, xen, xag, xfi, xse, xit, xpt, xtb, xmb, xgi, xqu, xwh, xwt) (nI q) := by
  have e1 : nI q / 17 = nI (q / 17) := pk_div (d := 17) (by omega) (by decide) (by decide)
  have e2 : nI q - nI q / 17 * 17 = nI (q % 17) := pk_rem (d := 17) (by omega) (by decide) (by decide)
  refine And.intro (by decide) (nm_r e1 (And.intro (by decide) (nm_r e2 ?_)))
  have hp' : ∀ S, tp_SP l (fun s => tp_ft (xtu s) (nI (q / 17)) (nI (q % 17)) = true) S → post S := by
    intro S hS
    apply hp S
    unfold tp_fit
    rw [e2, e1]
    exact hS
  have hp2 : ∀ S, tp_SP l (fun s => (nI (q / 17) = 16 ∨ xtu s / 16 = nI (q / 17)) ∧ (nI (q % 17) = 16 ∨ xtu s - xtu s / 16 * 16 = nI (q % 17))) S → post S := by
    intro S hS
    apply hp' S
    intro i hi
    rw [hS i hi]
    simp [tp_ft]
  by_cases hV : xV = 0
  · refine br_t hV (Exists.intro 21 (tp_obo hl hU hp' 20 0 rfl 0 21 (by omega) fun i hi => ?_))
    rw [b_0]
    simp
  · refine br_f hV ?_
    by_cases ha : q / 17 = 16
    · have ha' : nI (q / 17) = 16 := by rw [ha]; rfl
      refine br_t ha' (tp_fit47 (P := fun _ => True) (by omega) hse (fun i hi => ?_) fun S hS => hp2 S fun i hi => ?_)
      · rw [hU i hi]
        exact ⟨fun q => ⟨q, trivial⟩, fun q => q.1⟩
      · rw [hS i hi]
        exact ⟨fun q => ⟨q.1, Or.inl ha', q.2.2⟩, fun q => ⟨q.1, trivial, q.2.2⟩⟩
    · have hn : ¬ nI (q / 17) = 16 := fun z => ha ((nI_eq (b := 16) (by omega) (by decide)).mp z)
      refine br_f hn (And.intro (vp_in_nI (by omega) (by decide)) (nm_r (e' := xU &&& xfi (q / 17)) (by rw [nI_clamp (by omega)]) (tp_fit47 (P := fun s => xtu s / 16 = nI (q / 17)) (by omega) hse (fun i hi => ?_) fun S hS => hp2 S fun i hi => ?_)))
      · rw [b_and, Bool.and_eq_true, hU i hi, hfi _ (by omega) i hi]
        exact ⟨fun q => q.2, fun q => ⟨q.1, q⟩⟩
      · rw [hS i hi]
        exact ⟨fun q => ⟨q.1, Or.inr q.2.1, q.2.2⟩, fun q => ⟨q.1, q.2.1.resolve_left hn, q.2.2⟩⟩
end
end
section
/-! X's sets: seenBy, freeFor, oldestIn; its picture of the entries -/
def tp_o4 (x : Int32) : Prop := x = -1 ∨ ∃ c : Nat, c < 4 ∧ x = nI c
def tp_RG (l : List Nat) (tu ow tk mk : Nat → Int32) : Prop := ∀ s, s ∈ l → (∃ t : Nat, t < 256 ∧ tu s = nI t) ∧ tp_o4 (ow s) ∧ tp_o4 (tk s) ∧ ∀ i, 4 ≤ i → i < 32 → bt (mk s) i = false
def tp_XE (l : List Nat) (ow tk mk : Nat → Int32) (xU : Int32) (xA : Int64) (xtu : Nat → Int32) (xag : Nat → Int64) (xfi xse xpt xtb xmb : Nat → Int32) : Prop :=
  (∀ s, s ∈ l → s < 20) ∧ l.Pairwise (fun s s' => xag s < xag s') ∧ (∀ s, s ∈ l → xag s < xA) ∧ tp_SL l xU ∧
  (∀ k, k < 16 → tp_SP l (fun s => xtu s / 16 = nI k) (xfi k)) ∧ (∀ k, k < 16 → tp_SP l (fun s => xtu s - xtu s / 16 * 16 = nI k) (xse k)) ∧
  (∀ c, c < 4 → tp_SP l (fun s => ow s = nI c) (xpt c)) ∧ (∀ c, c < 4 → tp_SP l (fun s => tk s = nI c) (xtb c)) ∧ (∀ c, c < 4 → tp_SP l (fun s => bt (mk s) c = true) (xmb c))
theorem tp_nd {l : List Nat} {g : Nat → Int64} (h : l.Pairwise (fun s s' => g s < g s')) : l.Nodup :=
  h.imp fun {a b} q e => by
    subst e
    exact Int64.lt_irrefl q
theorem tp_o4_lt {x : Int32} (h : tp_o4 x) : x < 0 ↔ ∀ c : Nat, c < 4 → ¬ x = nI c := by
  constructor
  · intro q c hc z
    rw [z] at q
    exact nI_pos (by omega) q
  · intro q
    rcases h with h | ⟨c, hc, h⟩
    · rw [h]
      exact tp_m1lt
    · exact absurd h (q c hc)
section
variable {xU : Int32} {xA : Int64} {xT : Int32} {xW : Int32} {xV : Int32} {xtu : Nat → Int32} {xen : Nat → Int32} {xag : Nat → Int64} {xfi : Nat → Int32} {xse : Nat → Int32} {xit : Nat → Int32} {xpt : Nat → Int32} {xtb : Nat → Int32} {xmb : Nat → Int32} {xgi : Nat → Int32} {xqu : Nat → Int32} {xwh : Nat → Int32} {xwt : Nat → Int32}
theorem tp_seenL {post : Int32 → Prop} {c : Nat} (hc : c < 4)
    (hp : ∀ S, (∀ i, i < 32 → (bt S i = true ↔ bt xU i = true ∧ ∀ o, o < 4 → bt (xtb o) i = false ∧ (o ≠ c → bt (xpt o) i = false))) → post S) :
    ∀ (d j : Nat), j + d = 4 → ∀ (S : Int32) (n : Nat), d < n → (∀ i, i < 32 → (bt S i = true ↔ bt xU i = true ∧ ∀ o, o < j → bt (xtb o) i = false ∧ (o ≠ c → bt (xpt o) i = false))) → wX_seenBy_7 post (nI c) xU xA xT xW xV xtu xen xag xfi xse xit xpt xtb xmb xgi xqu xwh xwt n S (nI j) := by
  intro d
  induction d with
  | zero =>
    intro j hj S n hn hS
    obtain ⟨n, rfl⟩ : ∃ q, n = q + 1 := ⟨n - 1, by omega⟩
    have e : j = 4 := by omega
    subst e
    exact br_t (nI_le (a := 4) (by omega) (by omega)) (hp S hS)
  | succ d ih =>
    intro j hj S n hn hS
    obtain ⟨n, rfl⟩ : ∃ q, n = q + 1 := ⟨n - 1, by omega⟩
    have h4 : ¬ (4 : Int32) ≤ nI j := nI_ge (b := 4) (by omega) (by decide)
    have e : (nI j).toNatClampNeg = j := nI_clamp (by omega)
    have hin : vp_in (nI j) 4 := vp_in_nI (by omega) (by decide)
    refine br_f h4 (And.intro hin (nm_r (e' := S &&& (xtb j ^^^ (-1))) (by rw [e]) ?_))
    by_cases z : j = c
    · refine br_t (by rw [z]) (nm_r (nI_1 j) (ih (j + 1) (by omega) _ n (by omega) fun i hi => ?_))
      rw [tp_andn _ _ hi, Bool.and_eq_true, hS i hi]
      constructor
      · intro ⟨q, q2⟩
        refine ⟨q.1, fun o ho => ?_⟩
        by_cases y : o = j
        · subst y
          exact ⟨by simpa using q2, fun x => absurd z x⟩
        · exact q.2 o (by omega)
      · intro q
        refine ⟨⟨q.1, fun o ho => q.2 o (by omega)⟩, ?_⟩
        have := (q.2 j (by omega)).1
        simp [this]
    · refine br_f (fun y => z ((nI_eq (by omega) (by omega)).mp y)) (And.intro hin (nm_r (e' := S &&& (xtb j ^^^ (-1)) &&& (xpt j ^^^ (-1))) (by rw [e]) (nm_r (nI_1 j) (ih (j + 1) (by omega) _ n (by omega) fun i hi => ?_))))
      rw [tp_andn _ _ hi, Bool.and_eq_true, tp_andn _ _ hi, Bool.and_eq_true, hS i hi]
      constructor
      · intro ⟨⟨q, q2⟩, q3⟩
        refine ⟨q.1, fun o ho => ?_⟩
        by_cases y : o = j
        · subst y
          exact ⟨by simpa using q2, fun _ => by simpa using q3⟩
        · exact q.2 o (by omega)
      · intro q
        have q2 := q.2 j (by omega)
        refine ⟨⟨⟨q.1, fun o ho => q.2 o (by omega)⟩, ?_⟩, ?_⟩
        · simp [q2.1]
        · simp [q2.2 z]
theorem tp_bf {S : Int32} {i : Nat} {P : Prop} (h : bt S i = true ↔ P) : bt S i = false ↔ ¬ P := by
  rw [← h]
  cases bt S i <;> simp
theorem tp_seenBy {post : Int32 → Prop} {l : List Nat} {ow tk mk : Nat → Int32} (hX : tp_XE l ow tk mk xU xA xtu xag xfi xse xpt xtb xmb) (hR : tp_RG l xtu ow tk mk) {c : Nat} (hc : c < 4)
    (hp : ∀ S, tp_SP l (fun s => tp_sn (ow s) (tk s) (nI c) = true) S → post S) : wpX_seenBy post (xU, xA, xT, xW, xV, xtu, xen, xag, xfi, xse, xit, xpt, xtb, xmb, xgi, xqu, xwh, xwt) (nI c) := by
  obtain ⟨_, _, _, hU, _, _, hpt, htb, _⟩ := hX
  refine Exists.intro 5 (tp_seenL hc (fun S hS => hp S fun i hi => ?_) 4 0 rfl xU 5 (by omega) fun i hi => ?_)
  · rw [hS i hi, hU i hi]
    constructor
    · intro ⟨hl, q⟩
      obtain ⟨_, h1, h2, _⟩ := hR i hl
      refine ⟨hl, ?_⟩
      have a : tk i < 0 := (tp_o4_lt h2).mpr fun o ho z => (tp_bf (htb o ho i hi)).mp (q o ho).1 ⟨hl, z⟩
      have b : ow i < 0 ∨ ow i = nI c := by
        by_cases z : ow i = nI c
        · exact Or.inr z
        · refine Or.inl ((tp_o4_lt h1).mpr fun o ho y => ?_)
          by_cases w : o = c
          · exact z (w ▸ y)
          · exact (tp_bf (hpt o ho i hi)).mp ((q o ho).2 w) ⟨hl, y⟩
      simp [tp_sn, a, b]
    · intro ⟨hl, q⟩
      obtain ⟨_, h1, h2, _⟩ := hR i hl
      simp only [tp_sn, Bool.and_eq_true, Bool.or_eq_true, decide_eq_true_eq] at q
      refine ⟨hl, fun o ho => ⟨(tp_bf (htb o ho i hi)).mpr fun z => (tp_o4_lt h2).mp q.1 o ho z.2, fun w => (tp_bf (hpt o ho i hi)).mpr fun z => ?_⟩⟩
      rcases q.2 with y | y
      · exact (tp_o4_lt h1).mp y o ho z.2
      · exact w ((nI_eq (by omega) (by omega)).mp (z.2.symm.trans y))
  · exact ⟨fun q => ⟨q, fun o ho => absurd ho (by omega)⟩, fun q => q.1⟩
theorem tp_freeL {post : Int32 → Prop} {c : Nat} {S0 : Int32} (hc : c < 4)
    (hp : ∀ S, (∀ i, i < 32 → (bt S i = true ↔ bt S0 i = true ∧ ∀ o, o < 4 → o ≠ c → bt (xmb o) i = false)) → post S) :
    ∀ (d j : Nat), j + d = 4 → ∀ (S : Int32) (n : Nat), d < n → (∀ i, i < 32 → (bt S i = true ↔ bt S0 i = true ∧ ∀ o, o < j → o ≠ c → bt (xmb o) i = false)) → wX_freeFor_8 post (nI c) xU xA xT xW xV xtu xen xag xfi xse xit xpt xtb xmb xgi xqu xwh xwt n S (nI j) := by
  intro d
  induction d with
  | zero =>
    intro j hj S n hn hS
    obtain ⟨n, rfl⟩ : ∃ q, n = q + 1 := ⟨n - 1, by omega⟩
    have e : j = 4 := by omega
    subst e
    exact br_t (nI_le (a := 4) (by omega) (by omega)) (hp S hS)
  | succ d ih =>
    intro j hj S n hn hS
    obtain ⟨n, rfl⟩ : ∃ q, n = q + 1 := ⟨n - 1, by omega⟩
    have h4 : ¬ (4 : Int32) ≤ nI j := nI_ge (b := 4) (by omega) (by decide)
    have e : (nI j).toNatClampNeg = j := nI_clamp (by omega)
    have hin : vp_in (nI j) 4 := vp_in_nI (by omega) (by decide)
    refine br_f h4 ?_
    by_cases z : j = c
    · refine br_t (by rw [z]) (nm_r (nI_1 j) (ih (j + 1) (by omega) _ n (by omega) fun i hi => ?_))
      rw [hS i hi]
      constructor
      · intro q
        refine ⟨q.1, fun o ho hn => ?_⟩
        exact q.2 o (by omega) hn
      · intro q
        exact ⟨q.1, fun o ho => q.2 o (by omega)⟩
    · refine br_f (fun y => z ((nI_eq (by omega) (by omega)).mp y)) (And.intro hin (nm_r (e' := S &&& (xmb j ^^^ (-1))) (by rw [e]) (nm_r (nI_1 j) (ih (j + 1) (by omega) _ n (by omega) fun i hi => ?_))))
      rw [tp_andn _ _ hi, Bool.and_eq_true, hS i hi]
      constructor
      · intro ⟨q, q2⟩
        refine ⟨q.1, fun o ho hn => ?_⟩
        by_cases y : o = j
        · subst y
          simpa using q2
        · exact q.2 o (by omega) hn
      · intro q
        refine ⟨⟨q.1, fun o ho => q.2 o (by omega)⟩, ?_⟩
        simp [q.2 j (by omega) z]
theorem tp_freeFor {post : Int32 → Prop} {l : List Nat} {ow tk mk : Nat → Int32} (hX : tp_XE l ow tk mk xU xA xtu xag xfi xse xpt xtb xmb) (hR : tp_RG l xtu ow tk mk) {c : Nat} (hc : c < 4)
    (hp : ∀ S, tp_SP l (fun s => tp_fr (ow s) (tk s) (mk s) (nI c) = true) S → post S) : wpX_freeFor post (xU, xA, xT, xW, xV, xtu, xen, xag, xfi, xse, xit, xpt, xtb, xmb, xgi, xqu, xwh, xwt) (nI c) := by
  unfold wpX_freeFor
  refine tp_seenBy hX hR hc fun S0 h0 => ?_
  obtain ⟨_, _, _, _, _, _, _, _, hmb⟩ := hX
  refine Exists.intro 5 (tp_freeL (S0 := S0) hc (fun S hS => hp S fun i hi => ?_) 4 0 rfl S0 5 (by omega) fun i hi => ?_)
  · rw [hS i hi, h0 i hi]
    unfold tp_fr
    dsimp only
    rw [Bool.and_eq_true, decide_eq_true_eq, tp_mask _ (by omega)]
    constructor
    · intro ⟨⟨hl, q⟩, q2⟩
      refine ⟨hl, q, fun o ho hn => ?_⟩
      by_cases h4 : o < 4
      · have := (tp_bf (hmb o h4 i hi)).mp (q2 o h4 hn)
        cases z : bt (mk i) o
        · rfl
        · exact absurd ⟨hl, z⟩ this
      · exact (hR i hl).2.2.2 o (by omega) ho
    · intro ⟨hl, q, q2⟩
      refine ⟨⟨hl, q⟩, fun o ho hn => (tp_bf (hmb o ho i hi)).mpr fun z => ?_⟩
      have w : bt (mk i) o = true := z.2
      rw [q2 o (by omega) hn] at w
      exact Bool.noConfusion w
  · exact ⟨fun q => ⟨q, fun o ho => absurd ho (by omega)⟩, fun q => q.1⟩
theorem tp_oldL {post : Int32 → Prop} {s : Nat} {m : List Nat} {S : Int32} (hs : (s :: m).Pairwise (fun a b => xag a < xag b)) (hl : ∀ x, x ∈ s :: m → x < 20) (hS : tp_SL (s :: m) S) (hp : post (nI s)) :
    ∀ (d j : Nat), j + d = 20 → ∀ (B : Int32) (n : Nat), d < n → ((B = -1 ∧ ∀ x, x ∈ s :: m → j ≤ x) ∨ (∃ b : Nat, b ∈ s :: m ∧ b < j ∧ B = nI b ∧ ∀ x, x ∈ s :: m → x < j → xag b ≤ xag x)) → wX_oldestIn_4 post S xU xA xT xW xV xtu xen xag xfi xse xit xpt xtb xmb xgi xqu xwh xwt n B (nI j) := by
  intro d
  induction d with
  | zero =>
    intro j hj B n hn hB
    obtain ⟨n, rfl⟩ : ∃ q, n = q + 1 := ⟨n - 1, by omega⟩
    have hsl := hl s (by simp)
    refine br_t (nI_le (a := 20) (by omega) (by omega)) ?_
    rcases hB with ⟨_, h⟩ | ⟨b, hb, hbj, rfl, h⟩
    · have := h s (by simp)
      omega
    · rcases List.mem_cons.mp hb with e | e
      · rw [e]
        exact hp
      · have h1 := (List.pairwise_cons.mp hs).1 b e
        have h2 := h s (by simp) (by omega)
        exact absurd h1 (Int64.not_lt.mpr h2)
  | succ d ih =>
    intro j hj B n hn hB
    obtain ⟨n, rfl⟩ : ∃ q, n = q + 1 := ⟨n - 1, by omega⟩
    have h20 : ¬ (20 : Int32) ≤ nI j := nI_ge (b := 20) (by omega) (by decide)
    have e : (nI j).toNatClampNeg = j := nI_clamp (by omega)
    have hin : vp_in (nI j) 20 := vp_in_nI (by omega) (by decide)
    cases hb : bt S j
    · have hj' : ¬ j ∈ s :: m := (tp_bf (hS j (by omega))).mp hb
      refine br_f h20 (br_t ((tp_bit _ (by omega)).mpr hb) (nm_r (nI_1 j) (ih (j + 1) (by omega) B n (by omega) ?_)))
      rcases hB with ⟨hB, h⟩ | ⟨b, hb, hbj, hB, h⟩
      · refine Or.inl ⟨hB, fun x hx => ?_⟩
        have h1 := h x hx
        have h2 : x ≠ j := fun z => hj' (z ▸ hx)
        omega
      · refine Or.inr ⟨b, hb, by omega, hB, fun x hx hxj => h x hx ?_⟩
        have h2 : x ≠ j := fun z => hj' (z ▸ hx)
        omega
    · have hj' : j ∈ s :: m := (hS j (by omega)).mp hb
      refine br_f h20 (br_f ((tp_bitT _ (by omega)).mpr hb) ?_)
      rcases hB with ⟨rfl, h⟩ | ⟨b, hb, hbj, rfl, h⟩
      · refine br_t tp_m1lt (nm_r (nI_1 j) (ih (j + 1) (by omega) (nI j) n (by omega) (Or.inr ⟨j, hj', by omega, rfl, fun x hx hxj => ?_⟩)))
        have h1 := h x hx
        have h2 : x = j := by omega
        rw [h2]
        exact Int64.le_refl _
      · have e2 : (nI b).toNatClampNeg = b := nI_clamp (by omega)
        refine br_f (nI_pos (by omega)) (And.intro hin (And.intro (vp_in_nI (by omega) (by decide)) ?_))
        rw [e, e2]
        by_cases z : xag b ≤ xag j
        · refine br_t z (nm_r (nI_1 j) (ih (j + 1) (by omega) (nI b) n (by omega) (Or.inr ⟨b, hb, by omega, rfl, fun x hx hxj => ?_⟩)))
          by_cases y : x = j
          · rw [y]
            exact z
          · exact h x hx (by omega)
        · refine br_f z (nm_r (nI_1 j) (ih (j + 1) (by omega) (nI j) n (by omega) (Or.inr ⟨j, hj', by omega, rfl, fun x hx hxj => ?_⟩)))
          by_cases y : x = j
          · rw [y]
            exact Int64.le_refl _
          · exact Int64.le_trans (Int64.le_of_lt (Int64.not_le.mp z)) (h x hx (by omega))
theorem tp_oldest {post : Int32 → Prop} {s : Nat} {m : List Nat} {S : Int32} (hs : (s :: m).Pairwise (fun a b => xag a < xag b)) (hl : ∀ x, x ∈ s :: m → x < 20) (hS : tp_SL (s :: m) S) (hp : post (nI s)) : wpX_oldestIn post (xU, xA, xT, xW, xV, xtu, xen, xag, xfi, xse, xit, xpt, xtb, xmb, xgi, xqu, xwh, xwt) S :=
  Exists.intro 21 (tp_oldL hs hl hS hp 20 0 rfl (-1) 21 (by omega) (Or.inl ⟨rfl, fun x _ => Nat.zero_le x⟩))
end
end
section
/-! X's remove and the parts of its give -/
theorem tp_i16 : ∀ t, t < 512 → (nI t).toInt16.toInt32 = nI t := by decide +kernel
theorem tp_i8 : ∀ t, t < 8 → (nI t).toInt8.toInt32 = nI t := by decide +kernel
theorem tp_ns {t : Nat} (h : t < 512) : vp_nar .short (nI t) = nI t := by rw [vp_nar_short, tp_i16 t h]
theorem tp_nb {t : Nat} (h : t < 8) : vp_nar .byte (nI t) = nI t := by rw [vp_nar_byte, tp_i8 t h]
theorem tp_nbm : vp_nar .byte (-1) = -1 := by rw [vp_nar_byte]; decide
theorem tp_SP_rm {l l' : List Nat} {P : Nat → Prop} {A S : Int32} (hm : ∀ i, i < 32 → (i ∈ l' ↔ i ∈ l ∧ bt S i = false)) (h : tp_SP l P A) : tp_SP l' P (A &&& (S ^^^ (-1))) := by
  intro i hi
  rw [tp_andn _ _ hi, Bool.and_eq_true, h i hi, hm i hi]
  cases bt S i <;> simp
theorem tp_XE_rm {l l' : List Nat} {ow tk mk : Nat → Int32} {xU : Int32} {xA : Int64} {xtu : Nat → Int32} {xag : Nat → Int64} {xfi xse xpt xtb xmb : Nat → Int32} {S : Int32} (h : tp_XE l ow tk mk xU xA xtu xag xfi xse xpt xtb xmb)
    (hs : l'.Sublist l) (hm : ∀ i, i < 32 → (i ∈ l' ↔ i ∈ l ∧ bt S i = false)) : tp_XE l' ow tk mk (xU &&& (S ^^^ (-1))) xA xtu xag (tp_cl xfi S 16) (tp_cl xse S 16) (tp_cl xpt S 4) (tp_cl xtb S 4) (tp_cl xmb S 4) := by
  obtain ⟨h1, h2, h3, h4, h5, h6, h7, h8, h9⟩ := h
  refine ⟨fun s q => h1 s (hs.subset q), h2.sublist hs, fun s q => h3 s (hs.subset q), ?_, fun k hk => ?_, fun k hk => ?_, fun k hk => ?_, fun k hk => ?_, fun k hk => ?_⟩
  · intro i hi
    rw [tp_andn _ _ hi, Bool.and_eq_true, h4 i hi, hm i hi]
    cases bt S i <;> simp
  · rw [tp_cl_lt hk]
    exact tp_SP_rm hm (h5 k hk)
  · rw [tp_cl_lt hk]
    exact tp_SP_rm hm (h6 k hk)
  · rw [tp_cl_lt hk]
    exact tp_SP_rm hm (h7 k hk)
  · rw [tp_cl_lt hk]
    exact tp_SP_rm hm (h8 k hk)
  · rw [tp_cl_lt hk]
    exact tp_SP_rm hm (h9 k hk)
def tp_p (h c m : Int32) (e : tp_E) : Bool := if h = 0 then tp_pS c m e else tp_pF c m e
theorem tp_clc (a : Nat → Int32) (S : Int32) {j : Nat} (hj : j < 2 ^ 31) : upd (tp_cl a S j) (nI j).toNatClampNeg (tp_cl a S j (nI j).toNatClampNeg &&& (S ^^^ (-1))) = tp_cl a S (j + 1) := by
  rw [nI_clamp hj, tp_clS]
section
variable {xU : Int32} {xA : Int64} {xT : Int32} {xW : Int32} {xV : Int32} {xtu : Nat → Int32} {xen : Nat → Int32} {xag : Nat → Int64} {xfi : Nat → Int32} {xse : Nat → Int32} {xit : Nat → Int32} {xpt : Nat → Int32} {xtb : Nat → Int32} {xmb : Nat → Int32} {xgi : Nat → Int32} {xqu : Nat → Int32} {xwh : Nat → Int32} {xwt : Nat → Int32}
theorem tp_xr52 {post : SX → Prop} {S : Int32} (hp : post (xU, xA, xT, xW, xV, xtu, xen, xag, xfi, xse, xit, (tp_cl xpt S 4), (tp_cl xtb S 4), (tp_cl xmb S 4), xgi, xqu, xwh, xwt)) :
    ∀ (d j : Nat), j + d = 4 → ∀ n, d < n → wX_remove_52 post S xU xA xT xW xV n (nI j) xtu xen xag xfi xse xit (tp_cl xpt S j) (tp_cl xtb S j) (tp_cl xmb S j) xgi xqu xwh xwt := by
  intro d
  induction d with
  | zero =>
    intro j hj n hn
    obtain ⟨n, rfl⟩ : ∃ q, n = q + 1 := ⟨n - 1, by omega⟩
    have e : j = 4 := by omega
    subst e
    exact br_t (nI_le (a := 4) (by omega) (by omega)) hp
  | succ d ih =>
    intro j hj n hn
    obtain ⟨n, rfl⟩ : ∃ q, n = q + 1 := ⟨n - 1, by omega⟩
    have h4 : ¬ (4 : Int32) ≤ nI j := nI_ge (b := 4) (by omega) (by decide)
    have hin : vp_in (nI j) 4 := vp_in_nI (by omega) (by decide)
    have hj' : j < 2 ^ 31 := by omega
    exact br_f h4 (And.intro hin (And.intro hin (nm_r (tp_clc xpt S hj') (And.intro hin (And.intro hin (nm_r (tp_clc xtb S hj') (And.intro hin (And.intro hin (nm_r (tp_clc xmb S hj') (nm_r (nI_1 j) (ih (j + 1) (by omega) n (by omega))))))))))))
theorem tp_xr14 {post : SX → Prop} {S : Int32} (hp : post (xU, xA, xT, xW, xV, xtu, xen, xag, (tp_cl xfi S 16), (tp_cl xse S 16), xit, (tp_cl xpt S 4), (tp_cl xtb S 4), (tp_cl xmb S 4), xgi, xqu, xwh, xwt)) :
    ∀ (d j : Nat), j + d = 16 → ∀ n, d < n → wX_remove_14 post S xU xA xT xW xV n (nI j) xtu xen xag (tp_cl xfi S j) (tp_cl xse S j) xit xpt xtb xmb xgi xqu xwh xwt := by
  intro d
  induction d with
  | zero =>
    intro j hj n hn
    obtain ⟨n, rfl⟩ : ∃ q, n = q + 1 := ⟨n - 1, by omega⟩
    have e : j = 16 := by omega
    subst e
    have q := tp_xr52 hp 4 0 rfl 5 (by omega)
    rw [tp_cl0, tp_cl0, tp_cl0] at q
    exact br_t (nI_le (a := 16) (by omega) (by omega)) (Exists.intro 5 q)
  | succ d ih =>
    intro j hj n hn
    obtain ⟨n, rfl⟩ : ∃ q, n = q + 1 := ⟨n - 1, by omega⟩
    have h4 : ¬ (16 : Int32) ≤ nI j := nI_ge (b := 16) (by omega) (by decide)
    have hin : vp_in (nI j) 16 := vp_in_nI (by omega) (by decide)
    have hj' : j < 2 ^ 31 := by omega
    exact br_f h4 (And.intro hin (And.intro hin (nm_r (tp_clc xfi S hj') (And.intro hin (And.intro hin (nm_r (tp_clc xse S hj') (nm_r (nI_1 j) (ih (j + 1) (by omega) n (by omega)))))))))
theorem tp_xremove {post : SX → Prop} {S : Int32} (hp : post ((xU &&& (S ^^^ (-1))), xA, xT, xW, xV, xtu, xen, xag, (tp_cl xfi S 16), (tp_cl xse S 16), xit, (tp_cl xpt S 4), (tp_cl xtb S 4), (tp_cl xmb S 4), xgi, xqu, xwh, xwt)) : wpX_remove post (xU, xA, xT, xW, xV, xtu, xen, xag, xfi, xse, xit, xpt, xtb, xmb, xgi, xqu, xwh, xwt) S := by
  have q := tp_xr14 hp 16 0 rfl 17 (by omega)
  rw [tp_cl0, tp_cl0] at q
  exact nm_e (Exists.intro 17 q)
theorem tp_xg {post : Int32 → SX → Prop} {l : List Nat} {en ow tk mk : Nat → Int32} (hX : tp_XE l ow tk mk xU xA xtu xag xfi xse xpt xtb xmb) (hR : tp_RG l xtu ow tk mk) {c q : Nat} (hc : c < 4) (hq : q ≤ 288) (h : Int32)
    (k : ∀ z0 z1, tp_SP l (fun s => tp_p h (nI c) (nI q) (tp_at xtu en ow tk mk s) = true) (z1 &&& z0) → wX_give_26 post (nI c) h z0 z1 xU xA xT xW xV xtu xen xag xfi xse xit xpt xtb xmb xgi xqu xwh xwt) : wpX_give post (xU, xA, xT, xW, xV, xtu, xen, xag, xfi, xse, xit, xpt, xtb, xmb, xgi, xqu, xwh, xwt) (nI c) h (nI q) := by
  unfold wpX_give
  have hX' := hX
  obtain ⟨h1, _, _, h4, h5, h6, _, _, _⟩ := hX'
  refine tp_fitting hq h1 h4 h5 h6 fun S1 hS1 => ?_
  by_cases hh : h = 0
  · refine br_t hh (tp_seenBy hX hR hc fun S0 hS0 => k S0 S1 fun i hi => ?_)
    rw [b_and, Bool.and_eq_true, hS1 i hi, hS0 i hi]
    unfold tp_p
    dsimp only
    rw [if_pos hh]
    show _ ↔ _ ∧ (tp_fit (xtu i) (nI q) && tp_sn (ow i) (tk i) (nI c)) = true
    rw [Bool.and_eq_true]
    exact ⟨fun q => ⟨q.1.1, q.1.2, q.2.2⟩, fun q => ⟨⟨q.1, q.2.1⟩, q.1, q.2.2⟩⟩
  · refine br_f hh (tp_freeFor hX hR hc fun S0 hS0 => k S0 S1 fun i hi => ?_)
    rw [b_and, Bool.and_eq_true, hS1 i hi, hS0 i hi]
    unfold tp_p
    dsimp only
    rw [if_neg hh]
    show _ ↔ _ ∧ (tp_fit (xtu i) (nI q) && tp_fr (ow i) (tk i) (mk i) (nI c)) = true
    rw [Bool.and_eq_true]
    exact ⟨fun q => ⟨q.1.1, q.1.2, q.2.2⟩, fun q => ⟨⟨q.1, q.2.1⟩, q.1, q.2.2⟩⟩
theorem tp_x26n {post : Int32 → SX → Prop} {c h z0 z1 : Int32} (hz : z1 &&& z0 = 0) (hp : post 0 (xU, xA, xT, xW, xV, xtu, xen, xag, xfi, xse, xit, xpt, xtb, xmb, xgi, xqu, xwh, xwt)) : wX_give_26 post c h z0 z1 xU xA xT xW xV xtu xen xag xfi xse xit xpt xtb xmb xgi xqu xwh xwt := nm_r hz (br_t rfl hp)
variable {post : Int32 → SX → Prop} {c s t : Nat} {m : List Nat} {h z0 z1 : Int32}
/-- the entry's place is s, its tuple t: what is left is one of four -/
theorem tp_x26 (hs : (s :: m).Pairwise (fun a b => xag a < xag b)) (hl : ∀ x, x ∈ s :: m → x < 20) (hS : tp_SL (s :: m) (z1 &&& z0)) (hc : c < 4) (ht : t < 256) (htu : xtu s = nI t)
    (k : (h = 0 → (xit c = 0 → post 1 (xU, xA, xT, xW, xV, xtu, xen, xag, xfi, xse, xit, xpt, xtb, xmb, (upd xgi c (nI t)), xqu, xwh, xwt)) ∧ (¬ xit c = 0 → post 1 (xU, xA, xT, xW, xV, xtu, xen, xag, xfi, xse, xit, xpt, xtb, (upd xmb c (xmb c ||| ((1 : Int32) <<< (nI s &&& 31)))), (upd xgi c (nI t)), xqu, xwh, xwt))) ∧
      (¬ h = 0 → (xit c = 0 → wX_give_111 post ((1 : Int32) <<< (nI s &&& 31)) xU xA xT xW xV xtu xen xag xfi xse xit xpt xtb xmb (upd xgi c (nI t)) xqu xwh xwt) ∧
        (¬ xit c = 0 → ((xpt c &&& ((1 : Int32) <<< (nI s &&& 31))) = 0 → post 1 (xU, xA, xT, xW, xV, xtu, xen, xag, xfi, xse, xit, xpt, (upd xtb c (xtb c ||| ((1 : Int32) <<< (nI s &&& 31)))), xmb, (upd xgi c (nI t)), xqu, xwh, xwt)) ∧ (¬ (xpt c &&& ((1 : Int32) <<< (nI s &&& 31))) = 0 → wX_give_111 post ((1 : Int32) <<< (nI s &&& 31)) xU xA xT xW xV xtu xen xag xfi xse xit xpt xtb xmb (upd xgi c (nI t)) xqu xwh xwt)))) : wX_give_26 post (nI c) h z0 z1 xU xA xT xW xV xtu xen xag xfi xse xit xpt xtb xmb xgi xqu xwh xwt := by
  have hsl := hl s (by simp)
  have hn : ¬ (z1 &&& z0) = 0 := tp_SL_cons (by omega) hS
  have e : (nI c).toNatClampNeg = c := nI_clamp (by omega)
  have hin : vp_in (nI c) 4 := vp_in_nI hc (by decide)
  refine nm_e (br_f hn (tp_oldest hs hl hS ?_))
  refine nm_e (And.intro (vp_in_nI hsl (by decide)) (And.intro hin (nm_r (e' := upd xgi c (nI t)) (by rw [e, nI_clamp (show s < 2 ^ 31 by omega), htu, tp_ns (by omega)]) ?_)))
  rw [e]
  refine ⟨fun hh => And.intro hin ⟨fun a => (k.1 hh).1 a, fun a => And.intro hin (And.intro hin (nm_e ((k.1 hh).2 a)))⟩, fun hh => And.intro hin ⟨fun a => (k.2 hh).1 a, fun a => And.intro hin ⟨fun b => And.intro hin (And.intro hin (nm_e (((k.2 hh).2 a).1 b))), fun b => ((k.2 hh).2 a).2 b⟩⟩⟩
theorem tp_x111 {S : Int32} (hp : post 1 ((xU &&& (S ^^^ (-1))), xA, xT, xW, xV, xtu, xen, xag, (tp_cl xfi S 16), (tp_cl xse S 16), xit, (tp_cl xpt S 4), (tp_cl xtb S 4), (tp_cl xmb S 4), xgi, xqu, xwh, xwt)) : wX_give_111 post S xU xA xT xW xV xtu xen xag xfi xse xit xpt xtb xmb xgi xqu xwh xwt := tp_xremove hp
end
end
section
/-! Y's methods -/
def tp_YE (es : List tp_E) (yN : Int32) (ytu yen yow ytk ymk : Nat → Int32) : Prop := yN = nI es.length ∧ es.length ≤ 20 ∧ ∀ i e, es[i]? = some e → tp_at ytu yen yow ytk ymk i = e
theorem tp_shc (a : Nat → Int32) {i k : Nat} (h : i ≤ k) (hk : k + 1 < 2 ^ 31) : upd (tp_sh a i k) (nI k).toNatClampNeg (tp_sh a i k (nI k + 1).toNatClampNeg) = tp_sh a i (k + 1) := by
  rw [nI_1, nI_clamp (show k < 2 ^ 31 by omega), nI_clamp hk, tp_shS a h]
section
variable {yT : Int32} {yN : Int32} {yQ : Int32} {ytu : Nat → Int32} {yen : Nat → Int32} {yow : Nat → Int32} {ytk : Nat → Int32} {ymk : Nat → Int32} {ybu : Nat → Int32} {yla : Nat → Int32} {ywo : Nat → Int32} {yho : Nat → Int32} {ywa : Nat → Int32}
theorem tp_yin1 {post : Int32 → Prop} {v a b : Int32} (h1 : ¬ v < a) (h2 : ¬ b < v) (hp : post 1) : wpY_in post (yT, yN, yQ, ytu, yen, yow, ytk, ymk, ybu, yla, ywo, yho, ywa) v a b := br_f h1 (br_f h2 hp)
theorem tp_yin0 {post : Int32 → Prop} {v a b : Int32} (h : v < a ∨ b < v) (hp : post 0) : wpY_in post (yT, yN, yQ, ytu, yen, yow, ytk, ymk, ybu, yla, ywo, yho, ywa) v a b := by
  by_cases h1 : v < a
  · exact br_t h1 hp
  · exact br_f h1 (br_t (h.resolve_left h1) hp)
theorem tp_ycl1 {post : Int32 → Prop} {c : Nat} (hc : c < 4) (hp : post 1) : wpY_isClient post (yT, yN, yQ, ytu, yen, yow, ytk, ymk, ybu, yla, ywo, yho, ywa) (nI c) := by
  unfold wpY_isClient
  exact tp_yin1 (nI_pos (by omega)) (nI_nlt (a := 3) (by omega) (by decide)) ⟨narrow_b1, hp⟩
theorem tp_4le {v : Int32} (h : nI 4 ≤ v) : (3 : Int32) < v := by
  have a : (3 : Int32) < nI 4 := by decide
  exact Int32.lt_of_lt_of_le a h
theorem tp_ycl0 {post : Int32 → Prop} {v : Int32} (h : v < 0 ∨ nI 4 ≤ v) (hp : post 0) : wpY_isClient post (yT, yN, yQ, ytu, yen, yow, ytk, ymk, ybu, yla, ywo, yho, ywa) v := by
  unfold wpY_isClient
  exact tp_yin0 (h.imp id tp_4le) ⟨narrow_b0, hp⟩
theorem tp_yqL {post : Int32 → Prop} {cs : List Nat} {v : Int32} (hQ : yQ = nI cs.length) (h4 : cs.length ≤ 4) (hw : ∀ i c, cs[i]? = some c → ywo i = nI c) (h1 : ∀ i c, cs[i]? = some c → v = nI c → post (nI i)) (h0 : (∀ c, c ∈ cs → ¬ v = nI c) → post (-1)) :
    ∀ (d i : Nat), i + d = cs.length → (∀ j c, j < i → cs[j]? = some c → ¬ v = nI c) → ∀ n, d < n → wY_queued_2 post v yT yN yQ ytu yen yow ytk ymk ybu yla ywo yho ywa n (nI i) := by
  intro d
  induction d with
  | zero =>
    intro i hi hj n hn
    obtain ⟨n, rfl⟩ : ∃ q, n = q + 1 := ⟨n - 1, by omega⟩
    refine br_t (by rw [hQ]; exact nI_le (by omega) (by omega)) (h0 fun c hc => ?_)
    obtain ⟨j, hj'⟩ := List.getElem?_of_mem hc
    have := (List.getElem?_eq_some_iff.mp hj').1
    exact hj j c (by omega) hj'
  | succ d ih =>
    intro i hi hj n hn
    obtain ⟨n, rfl⟩ : ∃ q, n = q + 1 := ⟨n - 1, by omega⟩
    obtain ⟨c, hc⟩ : ∃ c, cs[i]? = some c := ⟨_, List.getElem?_eq_getElem (by omega)⟩
    have e : (nI i).toNatClampNeg = i := nI_clamp (by omega)
    refine br_f (by rw [hQ]; exact nI_ge (by omega) (by omega)) (And.intro (vp_in_nI (by omega) (by decide)) ?_)
    rw [e, hw i c hc]
    by_cases z : nI c = v
    · exact br_t z (h1 i c hc z.symm)
    · refine br_f z (nm_r (nI_1 i) (ih (i + 1) (by omega) (fun j c' hji hc' => ?_) n (by omega)))
      by_cases y : j = i
      · subst y
        rw [hc] at hc'
        cases hc'
        exact fun x => z x.symm
      · exact hj j c' (by omega) hc'
theorem tp_yqueued {post : Int32 → Prop} {cs : List Nat} {v : Int32} (hQ : yQ = nI cs.length) (h4 : cs.length ≤ 4) (hw : ∀ i c, cs[i]? = some c → ywo i = nI c) (h1 : ∀ i c, cs[i]? = some c → v = nI c → post (nI i)) (h0 : (∀ c, c ∈ cs → ¬ v = nI c) → post (-1)) : wpY_queued post (yT, yN, yQ, ytu, yen, yow, ytk, ymk, ybu, yla, ywo, yho, ywa) v :=
  Exists.intro (cs.length + 1) (tp_yqL hQ h4 hw h1 h0 cs.length 0 (Nat.zero_add _) (fun j c h => absurd h (by omega)) _ (Nat.lt_succ_self _))
theorem tp_yf25 {post : Int32 → Prop} {t a b : Int32} (ha : a = 16 ∨ t / 16 = a) (h1 : tp_ft t a b = true → post 1) (h0 : tp_ft t a b = false → post 0) : wY_fits_25 post t b yT yN yQ ytu yen yow ytk ymk ybu yla ywo yho ywa := by
  by_cases hb : b = 16
  · exact br_t hb (h1 (by simp [tp_ft, hb, ha]))
  · refine br_f hb (And.intro (by decide) ?_)
    by_cases z : b = t - t / 16 * 16
    · exact br_t z (h1 (by simp [tp_ft, ha, z.symm]))
    · have z' : ¬ t - t / 16 * 16 = b := fun q => z q.symm
      exact br_f z (h0 (by simp [tp_ft, hb, z']))
theorem tp_yfits {post : Int32 → Prop} {t m : Int32} (h1 : tp_fit t m = true → post 1) (h0 : tp_fit t m = false → post 0) : wpY_fits post (yT, yN, yQ, ytu, yen, yow, ytk, ymk, ybu, yla, ywo, yho, ywa) t m := by
  refine And.intro (by decide) (nm_e (And.intro (by decide) (nm_e ?_)))
  by_cases ha : m / 17 = 16
  · exact br_t ha (tp_yf25 (a := m / 17) (Or.inl ha) h1 h0)
  · refine br_f ha (And.intro (by decide) ?_)
    by_cases z : m / 17 = t / 16
    · exact br_t z (tp_yf25 (a := m / 17) (Or.inr z.symm) h1 h0)
    · have z' : ¬ t / 16 = m / 17 := fun q => z q.symm
      exact br_f z (h0 (by simp [tp_fit, tp_ft, ha, z']))
theorem tp_yseen {post : Int32 → Prop} {i : Nat} {v : Int32} (hi : i < 20) (h1 : tp_sn (yow i) (ytk i) v = true → post 1) (h0 : tp_sn (yow i) (ytk i) v = false → post 0) : wpY_isSeen post (yT, yN, yQ, ytu, yen, yow, ytk, ymk, ybu, yla, ywo, yho, ywa) (nI i) v := by
  have e : (nI i).toNatClampNeg = i := nI_clamp (by omega)
  have hin : vp_in (nI i) 20 := vp_in_nI hi (by decide)
  refine And.intro hin ?_
  rw [e]
  by_cases a : 0 ≤ ytk i
  · exact br_t a (h0 (by simp [tp_sn, Int32.not_lt.mpr a]))
  · have a' : ytk i < 0 := Int32.not_le.mp a
    refine br_f a (And.intro hin ?_)
    by_cases b : yow i < 0
    · exact br_t b (h1 (by simp [tp_sn, a', b]))
    · refine br_f b (And.intro hin ?_)
      by_cases d : yow i = v
      · exact br_t d (h1 (by simp [tp_sn, a', d]))
      · exact br_f d (h0 (by simp [tp_sn, a', b, d]))
theorem tp_yfree {post : Int32 → Prop} {i : Nat} {v : Int32} (hi : i < 20) (h1 : tp_fr (yow i) (ytk i) (ymk i) v = true → post 1) (h0 : tp_fr (yow i) (ytk i) (ymk i) v = false → post 0) : wpY_isFree post (yT, yN, yQ, ytu, yen, yow, ytk, ymk, ybu, yla, ywo, yho, ywa) (nI i) v := by
  unfold wpY_isFree
  have e : (nI i).toNatClampNeg = i := nI_clamp (by omega)
  refine tp_yseen hi (fun a => ?_) (fun a => ?_)
  · refine br_f (by decide) (And.intro (vp_in_nI hi (by decide)) ?_)
    rw [e]
    by_cases b : (ymk i &&& (((1 : Int32) <<< (v &&& 31)) ^^^ (-1))) = 0
    · exact br_t b (h1 (by unfold tp_fr; rw [a, decide_eq_true b]; rfl))
    · exact br_f b (h0 (by unfold tp_fr; rw [decide_eq_false b, Bool.and_false]))
  · exact br_t rfl (h0 (by simp [tp_fr, a]))
theorem tp_yrL {post : SY → Prop} {i m : Nat} (hm : m < 20) (hN : yN = nI (m + 1)) (hp : post (yT, (nI m), yQ, (tp_sh ytu i m), (tp_sh yen i m), (tp_sh yow i m), (tp_sh ytk i m), (tp_sh ymk i m), ybu, yla, ywo, yho, ywa)) :
    ∀ (d k : Nat), k + d = m → i ≤ k → ∀ n, d < n → wY_remove_2 post yT yN yQ n (nI k) (tp_sh ytu i k) (tp_sh yen i k) (tp_sh yow i k) (tp_sh ytk i k) (tp_sh ymk i k) ybu yla ywo yho ywa := by
  have e1 : yN - 1 = nI m := by rw [hN, nI_pred]
  intro d
  induction d with
  | zero =>
    intro k hk hik n hn
    obtain ⟨n, rfl⟩ : ∃ q, n = q + 1 := ⟨n - 1, by omega⟩
    have e : k = m := by omega
    subst e
    exact br_t (by rw [e1]; exact nI_le (by omega) (by omega)) (nm_r e1 hp)
  | succ d ih =>
    intro k hk hik n hn
    obtain ⟨n, rfl⟩ : ∃ q, n = q + 1 := ⟨n - 1, by omega⟩
    have hin : vp_in (nI k) 20 := vp_in_nI (by omega) (by decide)
    have hin' : vp_in (nI k + 1) 20 := by rw [nI_1]; exact vp_in_nI (by omega) (by decide)
    have hk' : k + 1 < 2 ^ 31 := by omega
    exact br_f (by rw [e1]; exact nI_ge (by omega) (by omega)) (And.intro hin' (And.intro hin (nm_r (tp_shc ytu hik hk') (And.intro hin' (And.intro hin (nm_r (tp_shc yen hik hk') (And.intro hin' (And.intro hin (nm_r (tp_shc yow hik hk') (And.intro hin' (And.intro hin (nm_r (tp_shc ytk hik hk') (And.intro hin' (And.intro hin (nm_r (tp_shc ymk hik hk') (nm_r (nI_1 k) (ih (k + 1) (by omega) (by omega) n (by omega))))))))))))))))))
theorem tp_yremove {post : SY → Prop} {i m : Nat} (hm : m < 20) (him : i ≤ m) (hN : yN = nI (m + 1)) (hp : post (yT, (nI m), yQ, (tp_sh ytu i m), (tp_sh yen i m), (tp_sh yow i m), (tp_sh ytk i m), (tp_sh ymk i m), ybu, yla, ywo, yho, ywa)) : wpY_remove post (yT, yN, yQ, ytu, yen, yow, ytk, ymk, ybu, yla, ywo, yho, ywa) (nI i) := by
  have q := tp_yrL hm hN hp (m - i) i (by omega) (Nat.le_refl _) (m - i + 1) (by omega)
  rw [tp_sh0, tp_sh0, tp_sh0, tp_sh0, tp_sh0] at q
  exact Exists.intro _ q
theorem tp_ysL {post : SY → Prop} {i m : Nat} (hm : m < 4) (hQ : yQ = nI (m + 1)) (hp : post (yT, yN, (nI m), ytu, yen, yow, ytk, ymk, ybu, yla, (tp_sh ywo i m), (tp_sh yho i m), (tp_sh ywa i m))) :
    ∀ (d k : Nat), k + d = m → i ≤ k → ∀ n, d < n → wY_stopWaiting_2 post yT yN yQ n (nI k) ytu yen yow ytk ymk ybu yla (tp_sh ywo i k) (tp_sh yho i k) (tp_sh ywa i k) := by
  have e1 : yQ - 1 = nI m := by rw [hQ, nI_pred]
  intro d
  induction d with
  | zero =>
    intro k hk hik n hn
    obtain ⟨n, rfl⟩ : ∃ q, n = q + 1 := ⟨n - 1, by omega⟩
    have e : k = m := by omega
    subst e
    exact br_t (by rw [e1]; exact nI_le (by omega) (by omega)) (nm_r e1 hp)
  | succ d ih =>
    intro k hk hik n hn
    obtain ⟨n, rfl⟩ : ∃ q, n = q + 1 := ⟨n - 1, by omega⟩
    have hin : vp_in (nI k) 4 := vp_in_nI (by omega) (by decide)
    have hin' : vp_in (nI k + 1) 4 := by rw [nI_1]; exact vp_in_nI (by omega) (by decide)
    have hk' : k + 1 < 2 ^ 31 := by omega
    exact br_f (by rw [e1]; exact nI_ge (by omega) (by omega)) (And.intro hin' (And.intro hin (nm_r (tp_shc ywo hik hk') (And.intro hin' (And.intro hin (nm_r (tp_shc yho hik hk') (And.intro hin' (And.intro hin (nm_r (tp_shc ywa hik hk') (nm_r (nI_1 k) (ih (k + 1) (by omega) (by omega) n (by omega))))))))))))
theorem tp_ystop {post : SY → Prop} {i m : Nat} (hm : m < 4) (him : i ≤ m) (hQ : yQ = nI (m + 1)) (hp : post (yT, yN, (nI m), ytu, yen, yow, ytk, ymk, ybu, yla, (tp_sh ywo i m), (tp_sh yho i m), (tp_sh ywa i m))) : wpY_stopWaiting post (yT, yN, yQ, ytu, yen, yow, ytk, ymk, ybu, yla, ywo, yho, ywa) (nI i) := by
  have q := tp_ysL hm hQ hp (m - i) i (by omega) (Nat.le_refl _) (m - i + 1) (by omega)
  rw [tp_sh0, tp_sh0, tp_sh0] at q
  exact Exists.intro _ q
/-- one place of the list in give -/
theorem tp_ygS {post : Int32 → SY → Prop} {c h q : Int32} {es : List tp_E} {e : tp_E} {i n : Nat} (hE : tp_YE es yN ytu yen yow ytk ymk) (hi : es[i]? = some e)
    (h1 : tp_p h c q e = true → wY_give_54 post c h (nI i) yT yN yQ ytu yen yow ytk ymk ybu yla ywo yho ywa) (h0 : tp_p h c q e = false → wY_give_3 post c h q yT yN yQ ytu yen yow ytk ymk ybu yla ywo yho ywa n (nI (i + 1))) : wY_give_3 post c h q yT yN yQ ytu yen yow ytk ymk ybu yla ywo yho ywa (n + 1) (nI i) := by
  obtain ⟨hN, h20, hA⟩ := hE
  have hl := (List.getElem?_eq_some_iff.mp hi).1
  have e1 : (nI i).toNatClampNeg = i := nI_clamp (by omega)
  have he := hA i e hi
  subst he
  refine br_f (by rw [hN]; exact nI_ge (by omega) (by omega)) (And.intro (vp_in_nI (by omega) (by decide)) ?_)
  rw [e1]
  by_cases hh : h = 0
  · have h1' : tp_fit (ytu i) q = true → tp_sn (yow i) (ytk i) c = true → wY_give_54 post c h (nI i) yT yN yQ ytu yen yow ytk ymk ybu yla ywo yho ywa := fun a b => h1 (by simp [tp_p, tp_pS, hh, tp_at, a, b])
    have h0' : tp_fit (ytu i) q = false ∨ tp_sn (yow i) (ytk i) c = false → wY_give_3 post c h q yT yN yQ ytu yen yow ytk ymk ybu yla ywo yho ywa n (nI (i + 1)) := fun a => h0 (by rcases a with a | a <;> simp [tp_p, tp_pS, hh, tp_at, a])
    refine tp_yfits (fun a => ?_) (fun a => ?_)
    · refine br_f (by decide) (br_t hh (tp_yseen (by omega) (fun b => ?_) (fun b => ?_)))
      · exact br_f (by decide) (h1' a b)
      · exact br_t rfl (nm_r (nI_1 i) (h0' (Or.inr b)))
    · exact br_t rfl (nm_r (nI_1 i) (h0' (Or.inl a)))
  · have h1' : tp_fit (ytu i) q = true → tp_fr (yow i) (ytk i) (ymk i) c = true → wY_give_54 post c h (nI i) yT yN yQ ytu yen yow ytk ymk ybu yla ywo yho ywa := fun a b => h1 (by simp [tp_p, tp_pF, hh, tp_at, a, b])
    have h0' : tp_fit (ytu i) q = false ∨ tp_fr (yow i) (ytk i) (ymk i) c = false → wY_give_3 post c h q yT yN yQ ytu yen yow ytk ymk ybu yla ywo yho ywa n (nI (i + 1)) := fun a => h0 (by rcases a with a | a <;> simp [tp_p, tp_pF, hh, tp_at, a])
    refine tp_yfits (fun a => ?_) (fun a => ?_)
    · refine br_f (by decide) (br_f hh (tp_yfree (by omega) (fun b => ?_) (fun b => ?_)))
      · exact br_f (by decide) (h1' a b)
      · exact br_t rfl (nm_r (nI_1 i) (h0' (Or.inr b)))
    · exact br_t rfl (nm_r (nI_1 i) (h0' (Or.inl a)))
theorem tp_ygN {post : Int32 → SY → Prop} {c h q : Int32} {es : List tp_E} (hE : tp_YE es yN ytu yen yow ytk ymk) (hf : ∀ e, e ∈ es → tp_p h c q e = false) (hp : post 0 (yT, yN, yQ, ytu, yen, yow, ytk, ymk, ybu, yla, ywo, yho, ywa)) :
    ∀ (d i : Nat), i + d = es.length → ∀ n, d < n → wY_give_3 post c h q yT yN yQ ytu yen yow ytk ymk ybu yla ywo yho ywa n (nI i) := by
  intro d
  induction d with
  | zero =>
    intro i hi n hn
    obtain ⟨n, rfl⟩ : ∃ q, n = q + 1 := ⟨n - 1, by omega⟩
    obtain ⟨hN, h20, hA⟩ := hE
    exact br_t (by rw [hN]; exact nI_le (by omega) (by omega)) hp
  | succ d ih =>
    intro i hi n hn
    obtain ⟨n, rfl⟩ : ∃ q, n = q + 1 := ⟨n - 1, by omega⟩
    obtain ⟨e, he⟩ : ∃ e, es[i]? = some e := ⟨_, List.getElem?_eq_getElem (by omega)⟩
    refine tp_ygS hE he (fun a => ?_) (fun _ => ih (i + 1) (by omega) n (by omega))
    rw [hf e (List.mem_of_getElem? he)] at a
    exact Bool.noConfusion a
theorem tp_ygive0 {post : Int32 → SY → Prop} {c h q : Int32} {es : List tp_E} (hE : tp_YE es yN ytu yen yow ytk ymk) (hf : ∀ e, e ∈ es → tp_p h c q e = false) (hp : post 0 (yT, yN, yQ, ytu, yen, yow, ytk, ymk, ybu, yla, ywo, yho, ywa)) : wpY_give post (yT, yN, yQ, ytu, yen, yow, ytk, ymk, ybu, yla, ywo, yho, ywa) c h q :=
  Exists.intro _ (tp_ygN hE hf hp es.length 0 (Nat.zero_add _) _ (Nat.lt_succ_self _))
theorem tp_ygF {post : Int32 → SY → Prop} {c h q : Int32} {e1 e2 : List tp_E} {e : tp_E} (hE : tp_YE (e1 ++ e :: e2) yN ytu yen yow ytk ymk) (hf : ∀ x, x ∈ e1 → tp_p h c q x = false) (he : tp_p h c q e = true) (hp : wY_give_54 post c h (nI e1.length) yT yN yQ ytu yen yow ytk ymk ybu yla ywo yho ywa) :
    ∀ (d i : Nat), i + d = e1.length → ∀ n, d < n → wY_give_3 post c h q yT yN yQ ytu yen yow ytk ymk ybu yla ywo yho ywa n (nI i) := by
  intro d
  induction d with
  | zero =>
    intro i hi n hn
    obtain ⟨n, rfl⟩ : ∃ q, n = q + 1 := ⟨n - 1, by omega⟩
    have z : i = e1.length := by omega
    subst z
    refine tp_ygS (e := e) hE (by simp) (fun _ => hp) (fun a => ?_)
    rw [he] at a
    exact Bool.noConfusion a
  | succ d ih =>
    intro i hi n hn
    obtain ⟨n, rfl⟩ : ∃ q, n = q + 1 := ⟨n - 1, by omega⟩
    obtain ⟨x, hx⟩ : ∃ x, e1[i]? = some x := ⟨_, List.getElem?_eq_getElem (by omega)⟩
    refine tp_ygS (e := x) hE (by rw [List.getElem?_append_left (by omega)]; exact hx) (fun a => ?_) (fun _ => ih (i + 1) (by omega) n (by omega))
    rw [hf x (List.mem_of_getElem? hx)] at a
    exact Bool.noConfusion a
theorem tp_ygive1 {post : Int32 → SY → Prop} {c h q : Int32} {e1 e2 : List tp_E} {e : tp_E} (hE : tp_YE (e1 ++ e :: e2) yN ytu yen yow ytk ymk) (hf : ∀ x, x ∈ e1 → tp_p h c q x = false) (he : tp_p h c q e = true) (hp : wY_give_54 post c h (nI e1.length) yT yN yQ ytu yen yow ytk ymk ybu yla ywo yho ywa) : wpY_give post (yT, yN, yQ, ytu, yen, yow, ytk, ymk, ybu, yla, ywo, yho, ywa) c h q :=
  Exists.intro _ (tp_ygF hE hf he hp e1.length 0 (Nat.zero_add _) _ (Nat.lt_succ_self _))
/-- what give does with the entry that it has found at i -/
theorem tp_y54 {post : Int32 → SY → Prop} {c i m : Nat} {h : Int32} (hc : c < 4) (hm : m < 20) (him : i ≤ m) (hN : yN = nI (m + 1))
    (k : (h = 0 → (ybu c = 0 → post 1 (yT, yN, yQ, ytu, yen, yow, ytk, ymk, ybu, (upd yla c (ytu i)), ywo, yho, ywa)) ∧ (¬ ybu c = 0 → post 1 (yT, yN, yQ, ytu, yen, yow, ytk, (upd ymk i (ymk i ||| ((1 : Int32) <<< (nI c &&& 31)))), ybu, (upd yla c (ytu i)), ywo, yho, ywa))) ∧
      (¬ h = 0 → (ybu c = 0 → post 1 (yT, (nI m), yQ, (tp_sh ytu i m), (tp_sh yen i m), (tp_sh yow i m), (tp_sh ytk i m), (tp_sh ymk i m), ybu, (upd yla c (ytu i)), ywo, yho, ywa)) ∧
        (¬ ybu c = 0 → (yow i = nI c → post 1 (yT, (nI m), yQ, (tp_sh ytu i m), (tp_sh yen i m), (tp_sh yow i m), (tp_sh ytk i m), (tp_sh ymk i m), ybu, (upd yla c (ytu i)), ywo, yho, ywa)) ∧ (¬ yow i = nI c → post 1 (yT, yN, yQ, ytu, yen, yow, (upd ytk i (nI c)), ymk, ybu, (upd yla c (ytu i)), ywo, yho, ywa))))) : wY_give_54 post (nI c) h (nI i) yT yN yQ ytu yen yow ytk ymk ybu yla ywo yho ywa := by
  have ec : (nI c).toNatClampNeg = c := nI_clamp (by omega)
  have ei : (nI i).toNatClampNeg = i := nI_clamp (by omega)
  have hinc : vp_in (nI c) 4 := vp_in_nI hc (by decide)
  have hini : vp_in (nI i) 20 := vp_in_nI (by omega) (by decide)
  refine And.intro hini (And.intro hinc (nm_r (e' := upd yla c (ytu i)) (by rw [ec, ei]) ?_))
  by_cases hh : h = 0
  · refine br_t hh (And.intro hinc ?_)
    rw [ec, ei]
    exact ⟨fun a => br_t hh ((k.1 hh).1 a), fun a => And.intro hini (And.intro hini (nm_e (br_t hh ((k.1 hh).2 a))))⟩
  · refine br_f hh (br_f hh (And.intro hinc ?_))
    rw [ec, ei]
    refine ⟨fun a => tp_yremove hm him hN ((k.2 hh).1 a), fun a => And.intro hini ⟨fun b => tp_yremove hm him hN (((k.2 hh).2 a).1 b), fun b => And.intro hini (nm_e (((k.2 hh).2 a).2 b))⟩⟩
end
end
section
/-! the relation on the entries, and what keeps it -/
def tp_EN (l : List Nat) (t : Nat) (xen en : Nat → Int32) : Prop := ∀ s, s ∈ l → (xen s = 0 ∧ en s = -1) ∨ ∃ e : Nat, t < e ∧ e ≤ t + 100 ∧ xen s = nI e ∧ en s = nI e
def tp_RE (t : Nat) (l : List Nat) (en ow tk mk : Nat → Int32) (xU : Int32) (xA : Int64) (xtu xen : Nat → Int32) (xag : Nat → Int64) (xfi xse xpt xtb xmb : Nat → Int32) (yN : Int32) (ytu yen yow ytk ymk : Nat → Int32) : Prop :=
  tp_XE l ow tk mk xU xA xtu xag xfi xse xpt xtb xmb ∧ tp_RG l xtu ow tk mk ∧ tp_EN l t xen en ∧ tp_YE (l.map (tp_at xtu en ow tk mk)) yN ytu yen yow ytk ymk
def tp_R (t : Nat) (xU : Int32) (xA : Int64) (xtu xen : Nat → Int32) (xag : Nat → Int64) (xfi xse xpt xtb xmb : Nat → Int32) (yN : Int32) (ytu yen yow ytk ymk : Nat → Int32) : Prop :=
  ∃ (l : List Nat) (en ow tk mk : Nat → Int32), tp_RE t l en ow tk mk xU xA xtu xen xag xfi xse xpt xtb xmb yN ytu yen yow ytk ymk
theorem tp_YE_rm {e1 e2 : List tp_E} {e : tp_E} {m : Nat} {yN : Int32} {ytu yen yow ytk ymk : Nat → Int32} (h : tp_YE (e1 ++ e :: e2) yN ytu yen yow ytk ymk) (hm : e1.length + e2.length = m) :
    tp_YE (e1 ++ e2) (nI m) (tp_sh ytu e1.length m) (tp_sh yen e1.length m) (tp_sh yow e1.length m) (tp_sh ytk e1.length m) (tp_sh ymk e1.length m) := by
  obtain ⟨_, h2, h3⟩ := h
  rw [List.length_append, List.length_cons] at h2
  refine ⟨by rw [List.length_append, hm], by rw [List.length_append]; omega, fun j x hx => ?_⟩
  have hj := (List.getElem?_eq_some_iff.mp hx).1
  rw [List.length_append] at hj
  by_cases z : j < e1.length
  · have q : tp_at ytu yen yow ytk ymk j = x := h3 j x (by rw [List.getElem?_append_left z] at hx ⊢; exact hx)
    have n : ¬ (e1.length ≤ j ∧ j < m) := by omega
    rw [← q]
    unfold tp_at tp_sh
    simp only [if_neg n]
  · have q : tp_at ytu yen yow ytk ymk (j + 1) = x := h3 (j + 1) x (by
      rw [List.getElem?_append_right (by omega)] at hx ⊢
      rw [show j + 1 - e1.length = (j - e1.length) + 1 by omega, List.getElem?_cons_succ]
      exact hx)
    have n : e1.length ≤ j ∧ j < m := by omega
    rw [← q]
    unfold tp_at tp_sh
    simp only [if_pos n]
theorem tp_YE_set {e1 e2 : List tp_E} {e e' : tp_E} {yN : Int32} {ytu yen yow ytk ymk ytu' yen' yow' ytk' ymk' : Nat → Int32} (h : tp_YE (e1 ++ e :: e2) yN ytu yen yow ytk ymk)
    (ho : ∀ j, j ≠ e1.length → tp_at ytu' yen' yow' ytk' ymk' j = tp_at ytu yen yow ytk ymk j) (hs : tp_at ytu' yen' yow' ytk' ymk' e1.length = e') : tp_YE (e1 ++ e' :: e2) yN ytu' yen' yow' ytk' ymk' := by
  obtain ⟨h1, h2, h3⟩ := h
  rw [List.length_append, List.length_cons] at h1 h2
  refine ⟨by rw [List.length_append, List.length_cons]; exact h1, by rw [List.length_append, List.length_cons]; exact h2, fun j x hx => ?_⟩
  by_cases z : j = e1.length
  · subst z
    rw [List.getElem?_append_right (Nat.le_refl _), Nat.sub_self] at hx
    exact hs.trans (Option.some.inj hx)
  · rw [ho j z]
    apply h3 j x
    by_cases y : j < e1.length
    · rw [List.getElem?_append_left y] at hx ⊢
      exact hx
    · rw [List.getElem?_append_right (by omega)] at hx ⊢
      rw [show j - e1.length = (j - e1.length - 1) + 1 by omega, List.getElem?_cons_succ] at hx ⊢
      exact hx
theorem tp_mapU {l1 l2 : List Nat} {s : Nat} (nd : (l1 ++ s :: l2).Nodup) {f g : Nat → tp_E} (h : ∀ x, x ≠ s → g x = f x) : (l1 ++ s :: l2).map g = l1.map f ++ g s :: l2.map f := by
  rw [List.nodup_append] at nd
  obtain ⟨_, n2, n3⟩ := nd
  have n4 := (List.nodup_cons.mp n2).1
  rw [List.map_append, List.map_cons]
  congr 1
  · exact List.map_congr_left fun x hx => h x (n3 x hx s (by simp))
  · congr 1
    exact List.map_congr_left fun x hx => h x fun z => n4 (z ▸ hx)
theorem tp_map1 {l1 l2 : List Nat} {s : Nat} {f : Nat → tp_E} : (l1 ++ s :: l2).map f = l1.map f ++ f s :: l2.map f := by
  rw [List.map_append, List.map_cons]
theorem tp_YE_i {e1 e2 : List tp_E} {e : tp_E} {yN : Int32} {ytu yen yow ytk ymk : Nat → Int32} (h : tp_YE (e1 ++ e :: e2) yN ytu yen yow ytk ymk) : tp_at ytu yen yow ytk ymk e1.length = e :=
  h.2.2 e1.length e (by simp)
theorem tp_at_o {a1 a2 a3 a4 a5 b1 b2 b3 b4 b5 : Nat → Int32} {i j : Nat} (h : tp_at a1 a2 a3 a4 a5 i = tp_at b1 b2 b3 b4 b5 j) : a1 i = b1 j ∧ a2 i = b2 j ∧ a3 i = b3 j ∧ a4 i = b4 j ∧ a5 i = b5 j := by
  unfold tp_at at h
  simp only [Prod.mk.injEq] at h
  exact h
theorem tp_SP_or {l : List Nat} {P : Nat → Prop} {A : Int32} {s : Nat} (hs : s ∈ l) (h32 : s < 32) (h : tp_SP l P A) : tp_SP l (fun i => P i ∨ i = s) (A ||| ((1 : Int32) <<< (nI s &&& 31))) := by
  intro i hi
  rw [b_or, tp_one h32 hi, Bool.or_eq_true, decide_eq_true_eq, h i hi]
  constructor
  · intro q
    rcases q with q | q
    · exact ⟨q.1, Or.inl q.2⟩
    · exact ⟨q ▸ hs, Or.inr q⟩
  · intro q
    rcases q.2 with z | z
    · exact Or.inl ⟨q.1, z⟩
    · exact Or.inr z
theorem tp_SP_iff {l : List Nat} {P Q : Nat → Prop} {A : Int32} (h : tp_SP l P A) (e : ∀ i, i ∈ l → (P i ↔ Q i)) : tp_SP l Q A := by
  intro i hi
  rw [h i hi]
  exact ⟨fun q => ⟨q.1, (e i q.1).mp q.2⟩, fun q => ⟨q.1, (e i q.1).mpr q.2⟩⟩
section
variable {t s c : Nat} {l1 l2 : List Nat} {en ow tk mk : Nat → Int32} {xU : Int32} {xA : Int64} {xtu xen : Nat → Int32} {xag : Nat → Int64} {xfi xse xpt xtb xmb : Nat → Int32} {yN : Int32} {ytu yen yow ytk ymk : Nat → Int32}
theorem tp_RE_mark (h : tp_RE t (l1 ++ s :: l2) en ow tk mk xU xA xtu xen xag xfi xse xpt xtb xmb yN ytu yen yow ytk ymk) (hc : c < 4) :
    tp_RE t (l1 ++ s :: l2) en ow tk (upd mk s (mk s ||| ((1 : Int32) <<< (nI c &&& 31)))) xU xA xtu xen xag xfi xse xpt xtb (upd xmb c (xmb c ||| ((1 : Int32) <<< (nI s &&& 31)))) yN ytu yen yow ytk (upd ymk l1.length (ymk l1.length ||| ((1 : Int32) <<< (nI c &&& 31)))) := by
  obtain ⟨⟨h1, h2, h3, h4, h5, h6, h7, h8, h9⟩, hG, hE, hY⟩ := h
  have hsl : s ∈ l1 ++ s :: l2 := by simp
  have hs := h1 s hsl
  refine ⟨⟨h1, h2, h3, h4, h5, h6, h7, h8, fun k hk => ?_⟩, fun x hx => ?_, hE, ?_⟩
  · by_cases z : k = c
    · subst z
      rw [pk_us]
      refine tp_SP_iff (tp_SP_or hsl (by omega) (h9 k hk)) fun i _ => ?_
      by_cases y : i = s
      · subst y
        rw [pk_us, b_or, tp_one (show k < 32 by omega) (show k < 32 by omega)]
        simp
      · rw [pk_un y]
        simp [y]
    · rw [pk_un z]
      refine tp_SP_iff (h9 k hk) fun i _ => ?_
      by_cases y : i = s
      · subst y
        rw [pk_us, b_or, tp_one (show c < 32 by omega) (show k < 32 by omega), decide_eq_false z, Bool.or_false]
      · rw [pk_un y]
  · obtain ⟨g1, g2, g3, g4⟩ := hG x hx
    refine ⟨g1, g2, g3, fun i hi h32 => ?_⟩
    by_cases y : x = s
    · subst y
      rw [pk_us, b_or, tp_one (show c < 32 by omega) h32, decide_eq_false (show ¬ i = c by omega), Bool.or_false]
      exact g4 i hi h32
    · rw [pk_un y]
      exact g4 i hi h32
  · rw [tp_map1] at hY
    rw [tp_mapU (tp_nd h2) (f := tp_at xtu en ow tk mk) (fun x hx => by unfold tp_at; rw [pk_un hx])]
    have q := tp_at_o (tp_YE_i hY)
    rw [List.length_map] at q
    refine tp_YE_set hY (fun j hj => ?_) ?_
    · rw [List.length_map] at hj
      unfold tp_at
      rw [pk_un hj]
    · rw [List.length_map]
      unfold tp_at
      rw [pk_us, pk_us, q.1, q.2.1, q.2.2.1, q.2.2.2.1, q.2.2.2.2]
theorem tp_RE_take (h : tp_RE t (l1 ++ s :: l2) en ow tk mk xU xA xtu xen xag xfi xse xpt xtb xmb yN ytu yen yow ytk ymk) (hc : c < 4) (hk : tk s < 0) :
    tp_RE t (l1 ++ s :: l2) en ow (upd tk s (nI c)) mk xU xA xtu xen xag xfi xse xpt (upd xtb c (xtb c ||| ((1 : Int32) <<< (nI s &&& 31)))) xmb yN ytu yen yow (upd ytk l1.length (nI c)) ymk := by
  obtain ⟨⟨h1, h2, h3, h4, h5, h6, h7, h8, h9⟩, hG, hE, hY⟩ := h
  have hsl : s ∈ l1 ++ s :: l2 := by simp
  have hs := h1 s hsl
  refine ⟨⟨h1, h2, h3, h4, h5, h6, h7, fun k hk' => ?_, h9⟩, fun x hx => ?_, hE, ?_⟩
  · by_cases z : k = c
    · subst z
      rw [pk_us]
      refine tp_SP_iff (tp_SP_or hsl (by omega) (h8 k hk')) fun i _ => ?_
      by_cases y : i = s
      · subst y
        rw [pk_us]
        simp
      · rw [pk_un y]
        simp [y]
    · rw [pk_un z]
      refine tp_SP_iff (h8 k hk') fun i _ => ?_
      by_cases y : i = s
      · subst y
        rw [pk_us]
        constructor
        · intro w
          rw [w] at hk
          exact absurd hk (nI_pos (by omega))
        · intro w
          exact absurd ((nI_eq (by omega) (by omega)).mp w).symm z
      · rw [pk_un y]
  · obtain ⟨g1, g2, g3, g4⟩ := hG x hx
    refine ⟨g1, g2, ?_, g4⟩
    by_cases y : x = s
    · subst y
      rw [pk_us]
      exact Or.inr ⟨c, hc, rfl⟩
    · rw [pk_un y]
      exact g3
  · rw [tp_map1] at hY
    rw [tp_mapU (tp_nd h2) (f := tp_at xtu en ow tk mk) (fun x hx => by unfold tp_at; rw [pk_un hx])]
    have q := tp_at_o (tp_YE_i hY)
    rw [List.length_map] at q
    refine tp_YE_set hY (fun j hj => ?_) ?_
    · rw [List.length_map] at hj
      unfold tp_at
      rw [pk_un hj]
    · rw [List.length_map]
      unfold tp_at
      rw [pk_us, pk_us, q.1, q.2.1, q.2.2.1, q.2.2.2.2]
theorem tp_RE_rm {m : Nat} (h : tp_RE t (l1 ++ s :: l2) en ow tk mk xU xA xtu xen xag xfi xse xpt xtb xmb yN ytu yen yow ytk ymk) (hm : l1.length + l2.length = m) :
    tp_RE t (l1 ++ l2) en ow tk mk (xU &&& (((1 : Int32) <<< (nI s &&& 31)) ^^^ (-1))) xA xtu xen xag (tp_cl xfi ((1 : Int32) <<< (nI s &&& 31)) 16) (tp_cl xse ((1 : Int32) <<< (nI s &&& 31)) 16) (tp_cl xpt ((1 : Int32) <<< (nI s &&& 31)) 4) (tp_cl xtb ((1 : Int32) <<< (nI s &&& 31)) 4) (tp_cl xmb ((1 : Int32) <<< (nI s &&& 31)) 4)
      (nI m) (tp_sh ytu l1.length m) (tp_sh yen l1.length m) (tp_sh yow l1.length m) (tp_sh ytk l1.length m) (tp_sh ymk l1.length m) := by
  obtain ⟨hX, hG, hE, hY⟩ := h
  have hs := hX.1 s (by simp)
  have nd := tp_nd hX.2.1
  have hsub : (l1 ++ l2).Sublist (l1 ++ s :: l2) := List.Sublist.append (List.Sublist.refl _) (List.sublist_cons_self _ _)
  have ns : ¬ s ∈ l1 ++ l2 := by
    rw [List.nodup_append] at nd
    obtain ⟨_, n2, n3⟩ := nd
    have n4 := (List.nodup_cons.mp n2).1
    intro w
    rcases List.mem_append.mp w with w | w
    · exact n3 s w s (by simp) rfl
    · exact n4 w
  refine ⟨tp_XE_rm hX hsub fun i hi => ?_, fun x hx => hG x (hsub.subset hx), fun x hx => hE x (hsub.subset hx), ?_⟩
  · rw [tp_one (show s < 32 by omega) hi, decide_eq_false_iff_not]
    constructor
    · intro w
      exact ⟨hsub.subset w, fun z => ns (z ▸ w)⟩
    · intro ⟨w, z⟩
      simp only [List.mem_append, List.mem_cons] at w ⊢
      rcases w with w | w | w
      · exact Or.inl w
      · exact absurd w z
      · exact Or.inr w
  · rw [tp_map1] at hY
    rw [List.map_append]
    have q := tp_YE_rm (m := m) hY (by rw [List.length_map, List.length_map]; exact hm)
    rw [List.length_map] at q
    exact q
end
end
section
/-! give, both sides at once -/
section
variable {xU : Int32} {xA : Int64} {xT : Int32} {xW : Int32} {xV : Int32} {xtu : Nat → Int32} {xen : Nat → Int32} {xag : Nat → Int64} {xfi : Nat → Int32} {xse : Nat → Int32} {xit : Nat → Int32} {xpt : Nat → Int32} {xtb : Nat → Int32} {xmb : Nat → Int32} {xgi : Nat → Int32} {xqu : Nat → Int32} {xwh : Nat → Int32} {xwt : Nat → Int32}
variable {yT : Int32} {yN : Int32} {yQ : Int32} {ytu : Nat → Int32} {yen : Nat → Int32} {yow : Nat → Int32} {ytk : Nat → Int32} {ymk : Nat → Int32} {ybu : Nat → Int32} {yla : Nat → Int32} {ywo : Nat → Int32} {yho : Nat → Int32} {ywa : Nat → Int32}
theorem tp_give {t c q : Nat} (h : Int32) (hR : tp_R t xU xA xtu xen xag xfi xse xpt xtb xmb yN ytu yen yow ytk ymk) (hc : c < 4) (hq : q ≤ 288) :
    ∃ (r xU' : Int32) (xfi' xse' xpt' xtb' xmb' xgi' : Nat → Int32) (yN' : Int32) (ytu' yen' yow' ytk' ymk' : Nat → Int32), tp_R t xU' xA xtu xen xag xfi' xse' xpt' xtb' xmb' yN' ytu' yen' yow' ytk' ymk' ∧ (r = 0 ∨ r = 1) ∧
      (∀ post : Int32 → SX → Prop, post r (xU', xA, xT, xW, xV, xtu, xen, xag, xfi', xse', xit, xpt', xtb', xmb', xgi', xqu, xwh, xwt) → wpX_give post (xU, xA, xT, xW, xV, xtu, xen, xag, xfi, xse, xit, xpt, xtb, xmb, xgi, xqu, xwh, xwt) (nI c) h (nI q)) ∧
      (∀ post : Int32 → SY → Prop, post r (yT, yN', yQ, ytu', yen', yow', ytk', ymk', xit, xgi', ywo, yho, ywa) → wpY_give post (yT, yN, yQ, ytu, yen, yow, ytk, ymk, xit, xgi, ywo, yho, ywa) (nI c) h (nI q)) := by
  obtain ⟨l, en, ow, tk, mk, hA⟩ := hR
  have hA' := hA
  obtain ⟨hX, hG, hE, hY⟩ := hA'
  cases hf : l.filter (fun s => tp_p h (nI c) (nI q) (tp_at xtu en ow tk mk s)) with
  | nil =>
    refine ⟨0, xU, xfi, xse, xpt, xtb, xmb, xgi, yN, ytu, yen, yow, ytk, ymk, ⟨l, en, ow, tk, mk, hA⟩, Or.inl rfl, fun post hp => tp_xg (en := en) hX hG hc hq h fun z0 z1 hz => ?_, fun post hp => tp_ygive0 hY (fun e he => ?_) hp⟩
    · have w := tp_SP_SL hz
      rw [hf] at w
      exact tp_x26n (tp_SL_nil w) hp
    · obtain ⟨s, hs, rfl⟩ := List.mem_map.mp he
      have w := List.filter_eq_nil_iff.mp hf s hs
      cases z : tp_p h (nI c) (nI q) (tp_at xtu en ow tk mk s)
      · rfl
      · exact absurd z w
  | cons s m =>
    have hSL : ∀ z0 z1 : Int32, tp_SP l (fun s => tp_p h (nI c) (nI q) (tp_at xtu en ow tk mk s) = true) (z1 &&& z0) → tp_SL (s :: m) (z1 &&& z0) := by
      intro z0 z1 hz
      have w := tp_SP_SL hz
      rw [hf] at w
      exact w
    have hso : (s :: m).Pairwise (fun a b => xag a < xag b) := by
      rw [← hf]
      exact hX.2.1.filter _
    have hlt : ∀ x, x ∈ s :: m → x < 20 := by
      intro x hx
      rw [← hf] at hx
      exact hX.1 x (List.mem_filter.mp hx).1
    obtain ⟨l1, l2, hl, hl1, hps, _⟩ := List.filter_eq_cons_iff.mp hf
    subst hl
    obtain ⟨⟨tt, htt, htu⟩, _, _, _⟩ := hG s (by simp)
    have hY1 := hY
    rw [tp_map1] at hY1
    have hat := tp_at_o (tp_YE_i hY1)
    rw [List.length_map] at hat
    have hN := hY1.1
    have h20 := hY1.2.1
    rw [List.length_append, List.length_cons, List.length_map, List.length_map] at hN h20
    have hN' : yN = nI (l1.length + l2.length + 1) := hN
    have hf1 : ∀ x, x ∈ l1.map (tp_at xtu en ow tk mk) → tp_p h (nI c) (nI q) x = false := by
      intro x hx
      obtain ⟨y, hy, rfl⟩ := List.mem_map.mp hx
      have w := hl1 y hy
      cases z : tp_p h (nI c) (nI q) (tp_at xtu en ow tk mk y)
      · rfl
      · exact absurd z w
    have hyt : ytu l1.length = nI tt := by rw [hat.1, htu]
    have YG : ∀ post : Int32 → SY → Prop, wY_give_54 post (nI c) h (nI l1.length) yT yN yQ ytu yen yow ytk ymk xit xgi ywo yho ywa → wpY_give post (yT, yN, yQ, ytu, yen, yow, ytk, ymk, xit, xgi, ywo, yho, ywa) (nI c) h (nI q) := by
      intro post hp
      refine tp_ygive1 hY1 hf1 hps ?_
      rw [List.length_map]
      exact hp
    by_cases hh : h = 0
    · by_cases ha : xit c = 0
      · refine ⟨1, xU, xfi, xse, xpt, xtb, xmb, upd xgi c (nI tt), yN, ytu, yen, yow, ytk, ymk, ⟨_, en, ow, tk, mk, hA⟩, Or.inr rfl, fun post hp => tp_xg (en := en) hX hG hc hq h fun z0 z1 hz => tp_x26 hso hlt (hSL z0 z1 hz) hc htt htu ?_, fun post hp => YG post (tp_y54 hc (m := l1.length + l2.length) (by omega) (by omega) hN' ?_)⟩
        · exact ⟨fun _ => ⟨fun _ => hp, fun z => absurd ha z⟩, fun z => absurd hh z⟩
        · rw [hyt]
          exact ⟨fun _ => ⟨fun _ => hp, fun z => absurd ha z⟩, fun z => absurd hh z⟩
      · refine ⟨1, xU, xfi, xse, xpt, xtb, _, upd xgi c (nI tt), yN, ytu, yen, yow, ytk, _, ⟨_, en, ow, tk, _, tp_RE_mark (c := c) hA hc⟩, Or.inr rfl, fun post hp => tp_xg (en := en) hX hG hc hq h fun z0 z1 hz => tp_x26 hso hlt (hSL z0 z1 hz) hc htt htu ?_, fun post hp => YG post (tp_y54 hc (m := l1.length + l2.length) (by omega) (by omega) hN' ?_)⟩
        · exact ⟨fun _ => ⟨fun z => absurd z ha, fun _ => hp⟩, fun z => absurd hh z⟩
        · rw [hyt]
          exact ⟨fun _ => ⟨fun z => absurd z ha, fun _ => hp⟩, fun z => absurd hh z⟩
    · have hsl : s < 20 := hX.1 s (by simp)
      have hb : (xpt c &&& ((1 : Int32) <<< (nI s &&& 31))) = 0 ↔ ¬ ow s = nI c := by
        have w := hX.2.2.2.2.2.2.1 c hc s (by omega)
        constructor
        · intro z y
          have v : bt (xpt c &&& ((1 : Int32) <<< (nI s &&& 31))) s = true := by
            rw [b_and, tp_one (show s < 32 by omega) (by omega), w.mpr ⟨by simp, y⟩]
            simp
          rw [z, b_0] at v
          exact Bool.noConfusion v
        · intro z
          rw [tp_zero]
          intro i hi
          rw [b_and, tp_one (show s < 32 by omega) hi]
          by_cases y : i = s
          · subst y
            have v : bt (xpt c) i = false := by
              rw [tp_bf w]
              exact fun x => z x.2
            rw [v, Bool.false_and]
          · rw [decide_eq_false y, Bool.and_false]
      have hk : tk s < 0 := by
        have w := hps
        simp only [tp_p, if_neg hh, tp_pF, tp_fr, tp_sn, Bool.and_eq_true, decide_eq_true_eq] at w
        exact w.2.1.1
      by_cases hd : xit c = 0 ∨ ow s = nI c
      · refine ⟨1, _, _, _, _, _, _, upd xgi c (nI tt), _, _, _, _, _, _, ⟨_, en, ow, tk, mk, tp_RE_rm hA rfl⟩, Or.inr rfl, fun post hp => tp_xg (en := en) hX hG hc hq h fun z0 z1 hz => tp_x26 hso hlt (hSL z0 z1 hz) hc htt htu ?_, fun post hp => YG post (tp_y54 hc (m := l1.length + l2.length) (by omega) (by omega) hN' ?_)⟩
        · exact ⟨fun z => absurd z hh, fun _ => ⟨fun _ => tp_x111 hp, fun a => ⟨fun b => absurd (hd.resolve_left a) (hb.mp b), fun _ => tp_x111 hp⟩⟩⟩
        · rw [hyt, hat.2.2.1]
          exact ⟨fun z => absurd z hh, fun _ => ⟨fun _ => hp, fun a => ⟨fun _ => hp, fun b => absurd (hd.resolve_left a) b⟩⟩⟩
      · have hd1 : ¬ xit c = 0 := fun z => hd (Or.inl z)
        have hd2 : ¬ ow s = nI c := fun z => hd (Or.inr z)
        refine ⟨1, xU, xfi, xse, xpt, _, xmb, upd xgi c (nI tt), yN, ytu, yen, yow, _, ymk, ⟨_, en, ow, _, mk, tp_RE_take (c := c) hA hc hk⟩, Or.inr rfl, fun post hp => tp_xg (en := en) hX hG hc hq h fun z0 z1 hz => tp_x26 hso hlt (hSL z0 z1 hz) hc htt htu ?_, fun post hp => YG post (tp_y54 hc (m := l1.length + l2.length) (by omega) (by omega) hN' ?_)⟩
        · exact ⟨fun z => absurd z hh, fun _ => ⟨fun z => absurd z hd1, fun _ => ⟨fun _ => hp, fun z => absurd (hb.mpr hd2) z⟩⟩⟩
        · rw [hyt, hat.2.2.1]
          exact ⟨fun z => absurd z hh, fun _ => ⟨fun z => absurd z hd1, fun _ => ⟨fun z => absurd z hd2, fun _ => hp⟩⟩⟩
end
end
section
/-! those who wait; serve, both sides at once -/
def tp_QX (cs : List Nat) (xqu : Nat → Int32) : Prop := ∀ i c, cs[i]? = some c → xqu i = nI c
def tp_QY (cs : List Nat) (xwh xwt ywo yho ywa : Nat → Int32) : Prop := ∀ i c, cs[i]? = some c → ywo i = nI c ∧ yho i = xwh c ∧ ywa i = xwt c
def tp_QC (cs : List Nat) (xwh xwt : Nat → Int32) : Prop := cs.Nodup ∧ (∀ c, c ∈ cs → c < 4 ∧ (xwh c = 0 ∨ xwh c = 1) ∧ ∃ q : Nat, q ≤ 288 ∧ xwt c = nI q) ∧ ∀ c, c < 4 → ¬ c ∈ cs → xwh c = -1
theorem tp_shL {α : Type} {l1 l2 : List α} {x y : α} {m i : Nat} (hm : l1.length + l2.length = m) (h : (l1 ++ l2)[i]? = some y) : ∃ j, (l1 ++ x :: l2)[j]? = some y ∧ ∀ a, tp_sh a l1.length m i = a j := by
  have hi := (List.getElem?_eq_some_iff.mp h).1
  rw [List.length_append] at hi
  by_cases z : i < l1.length
  · refine ⟨i, by rw [List.getElem?_append_left z] at h ⊢; exact h, fun a => ?_⟩
    unfold tp_sh
    rw [if_neg (by omega)]
  · refine ⟨i + 1, ?_, fun a => ?_⟩
    · rw [List.getElem?_append_right (by omega)] at h ⊢
      rw [show i + 1 - l1.length = (i - l1.length) + 1 by omega, List.getElem?_cons_succ]
      exact h
    · unfold tp_sh
      rw [if_pos (by omega)]
theorem tp_nd_mid {l1 l2 : List Nat} {s : Nat} (nd : (l1 ++ s :: l2).Nodup) : ¬ s ∈ l1 ++ l2 := by
  rw [List.nodup_append] at nd
  obtain ⟨_, n2, n3⟩ := nd
  have n4 := (List.nodup_cons.mp n2).1
  intro w
  rcases List.mem_append.mp w with w | w
  · exact n3 s w s (by simp) rfl
  · exact n4 w
theorem tp_mem_mid {l1 l2 : List Nat} {s x : Nat} (h : x ∈ l1 ++ s :: l2) (hn : x ≠ s) : x ∈ l1 ++ l2 := by
  simp only [List.mem_append, List.mem_cons] at h ⊢
  rcases h with w | w | w
  · exact Or.inl w
  · exact absurd w hn
  · exact Or.inr w
theorem tp_QY_rm {l1 l2 : List Nat} {c m : Nat} {xwh xwt ywo yho ywa : Nat → Int32} (nd : (l1 ++ c :: l2).Nodup) (hm : l1.length + l2.length = m) (h : tp_QY (l1 ++ c :: l2) xwh xwt ywo yho ywa) :
    tp_QY (l1 ++ l2) (upd xwh c (-1)) xwt (tp_sh ywo l1.length m) (tp_sh yho l1.length m) (tp_sh ywa l1.length m) := by
  intro i c' hc'
  obtain ⟨j, hj, ha⟩ := tp_shL (x := c) hm hc'
  have hne : c' ≠ c := fun z => tp_nd_mid nd (z ▸ List.mem_of_getElem? hc')
  rw [ha, ha, ha, pk_un hne]
  exact h j c' hj
theorem tp_QC_rm {l1 l2 : List Nat} {c : Nat} {xwh xwt : Nat → Int32} (h : tp_QC (l1 ++ c :: l2) xwh xwt) : tp_QC (l1 ++ l2) (upd xwh c (-1)) xwt := by
  obtain ⟨nd, h1, h2⟩ := h
  have hn := tp_nd_mid nd
  have hsub : (l1 ++ l2).Sublist (l1 ++ c :: l2) := List.Sublist.append (List.Sublist.refl _) (List.sublist_cons_self _ _)
  refine ⟨nd.sublist hsub, fun x hx => ?_, fun x hx hx2 => ?_⟩
  · have hne : x ≠ c := fun z => hn (z ▸ hx)
    rw [pk_un hne]
    exact h1 x (hsub.subset hx)
  · by_cases z : x = c
    · rw [z, pk_us]
    · rw [pk_un z]
      exact h2 x hx fun w => hx2 (tp_mem_mid w z)
section
variable {yT : Int32} {yN : Int32} {yQ : Int32} {ytu : Nat → Int32} {yen : Nat → Int32} {yow : Nat → Int32} {ytk : Nat → Int32} {ymk : Nat → Int32} {ybu : Nat → Int32} {yla : Nat → Int32} {ywo : Nat → Int32} {yho : Nat → Int32} {ywa : Nat → Int32}
theorem tp_yidle {post : SY → Prop} {m : Nat} (hm : m < 2 ^ 31) (hQ : yQ = nI m) (hp : post (yT, yN, yQ, ytu, yen, yow, ytk, ymk, ybu, yla, ywo, yho, ywa)) : ∀ (d k : Nat), k + d = 4 → ∀ n, d < n → wY_serve_4 post n (nI m) (nI k) yT yN yQ ytu yen yow ytk ymk ybu yla ywo yho ywa := by
  intro d
  induction d with
  | zero =>
    intro k hk n hn
    obtain ⟨n, rfl⟩ : ∃ q, n = q + 1 := ⟨n - 1, by omega⟩
    exact br_t (nI_le (a := 4) (by omega) (by omega)) hp
  | succ d ih =>
    intro k hk n hn
    obtain ⟨n, rfl⟩ : ∃ q, n = q + 1 := ⟨n - 1, by omega⟩
    exact br_f (nI_ge (b := 4) (by omega) (by decide)) (br_t (by rw [hQ]; exact nI_le (by omega) (by omega)) (nm_r (nI_1 k) (ih (k + 1) (by omega) n (by omega))))
end
section
variable {xA : Int64} {xT xW xV : Int32} {xtu xen : Nat → Int32} {xag : Nat → Int64} {xit xwt : Nat → Int32} {yT : Int32}
theorem tp_serveL {t w : Nat} (hw : w ≤ 4) (hW : xW = nI w) : ∀ (ps ks : List Nat) (k : Nat) (xU : Int32) (xfi xse xpt xtb xmb xgi xqu xwh : Nat → Int32) (yN yQ : Int32) (ytu yen yow ytk ymk ywo yho ywa : Nat → Int32),
    k + ps.length = w → ks.length ≤ k → tp_R t xU xA xtu xen xag xfi xse xpt xtb xmb yN ytu yen yow ytk ymk →
    (∀ i c, ks[i]? = some c → xqu i = nI c) → (∀ i c, ps[i]? = some c → xqu (k + i) = nI c) → yQ = nI (ks ++ ps).length → tp_QY (ks ++ ps) xwh xwt ywo yho ywa → tp_QC (ks ++ ps) xwh xwt →
    ∃ (cs : List Nat) (xU' : Int32) (xfi' xse' xpt' xtb' xmb' xgi' xqu' xwh' : Nat → Int32) (yN' : Int32) (ytu' yen' yow' ytk' ymk' ywo' yho' ywa' : Nat → Int32),
      (tp_R t xU' xA xtu xen xag xfi' xse' xpt' xtb' xmb' yN' ytu' yen' yow' ytk' ymk' ∧ tp_QX cs xqu' ∧ tp_QY cs xwh' xwt ywo' yho' ywa' ∧ tp_QC cs xwh' xwt) ∧
      (∀ (post : SX → Prop) (n : Nat), ps.length < n → post (xU', xA, xT, (nI cs.length), xV, xtu, xen, xag, xfi', xse', xit, xpt', xtb', xmb', xgi', xqu', xwh', xwt) → wX_serve_4 post n (nI ks.length) (nI k) xU xA xT xW xV xtu xen xag xfi xse xit xpt xtb xmb xgi xqu xwh xwt) ∧
      (∀ (post : SY → Prop) (n : Nat), 4 - k < n → post (yT, yN', (nI cs.length), ytu', yen', yow', ytk', ymk', xit, xgi', ywo', yho', ywa') → wY_serve_4 post n (nI ks.length) (nI k) yT yN yQ ytu yen yow ytk ymk xit xgi ywo yho ywa) := by
  intro ps
  induction ps with
  | nil =>
    intro ks k xU xfi xse xpt xtb xmb xgi xqu xwh yN yQ ytu yen yow ytk ymk ywo yho ywa hk hks hR hq1 hq2 hQ hQY hQC
    rw [List.append_nil] at hQ hQY hQC
    rw [List.length_nil] at hk
    refine ⟨ks, xU, xfi, xse, xpt, xtb, xmb, xgi, xqu, xwh, yN, ytu, yen, yow, ytk, ymk, ywo, yho, ywa, ⟨hR, hq1, hQY, hQC⟩, fun post n hn hp => ?_, fun post n hn hp => ?_⟩
    · obtain ⟨n, rfl⟩ : ∃ q, n = q + 1 := ⟨n - 1, by omega⟩
      exact br_t (by rw [hW]; exact nI_le (by omega) (by omega)) hp
    · exact tp_yidle (by omega) hQ (by rw [hQ]; exact hp) (4 - k) k (by omega) n hn
  | cons c ps ih =>
    intro ks k xU xfi xse xpt xtb xmb xgi xqu xwh yN yQ ytu yen yow ytk ymk ywo yho ywa hk hks hR hq1 hq2 hQ hQY hQC
    obtain ⟨hc, hh, q, hq, hwt⟩ := hQC.2.1 c (by simp)
    rw [List.length_cons] at hk
    have ec : (nI c).toNatClampNeg = c := nI_clamp (by omega)
    have ek : (nI k).toNatClampNeg = k := nI_clamp (by omega)
    have es : (nI ks.length).toNatClampNeg = ks.length := nI_clamp (by omega)
    have hinc : vp_in (nI c) 4 := vp_in_nI hc (by decide)
    have hink : vp_in (nI k) 4 := vp_in_nI (by omega) (by decide)
    have hins : vp_in (nI ks.length) 4 := vp_in_nI (by omega) (by decide)
    have hqk : xqu k = nI c := hq2 0 c rfl
    obtain ⟨hy1, hy2, hy3⟩ := hQY ks.length c (by simp)
    have hQl : (ks ++ c :: ps).length = ks.length + ps.length + 1 := by rw [List.length_append, List.length_cons]; omega
    rw [hQl] at hQ
    obtain ⟨r, xU1, xfi1, xse1, xpt1, xtb1, xmb1, xgi1, yN1, ytu1, yen1, yow1, ytk1, ymk1, hR1, hr, hGX, hGY⟩ := tp_give (xT := xT) (xW := xW) (xV := xV) (xit := xit) (xgi := xgi) (xqu := xqu) (xwh := xwh) (xwt := xwt) (yT := yT) (yQ := yQ) (ywo := ywo) (yho := yho) (ywa := ywa) (xwh c) hR hc hq
    rcases hr with rfl | rfl
    · obtain ⟨cs, xU', xfi', xse', xpt', xtb', xmb', xgi', xqu', xwh', yN', ytu', yen', yow', ytk', ymk', ywo', yho', ywa', hREL, hPX, hPY⟩ := ih (ks ++ [c]) (k + 1) xU1 xfi1 xse1 xpt1 xtb1 xmb1 xgi1 (upd xqu ks.length (nI c)) xwh yN1 yQ ytu1 yen1 yow1 ytk1 ymk1 ywo yho ywa (by omega) (by rw [List.length_append, List.length_singleton]; omega) hR1
        (fun i c' hi => by
          by_cases z : i = ks.length
          · subst z
            rw [pk_us]
            rw [List.getElem?_append_right (Nat.le_refl _), Nat.sub_self] at hi
            exact congrArg nI (Option.some.inj hi)
          · rw [pk_un z]
            have hl := (List.getElem?_eq_some_iff.mp hi).1
            rw [List.length_append, List.length_singleton] at hl
            rw [List.getElem?_append_left (by omega)] at hi
            exact hq1 i c' hi)
        (fun i c' hi => by
          rw [pk_un (by omega), show k + 1 + i = k + (i + 1) by omega]
          exact hq2 (i + 1) c' hi)
        (by rw [hQ, List.append_assoc, List.singleton_append, hQl]) (by rw [List.append_assoc, List.singleton_append]; exact hQY) (by rw [List.append_assoc, List.singleton_append]; exact hQC)
      rw [List.length_append, List.length_singleton] at hPX hPY
      refine ⟨cs, xU', xfi', xse', xpt', xtb', xmb', xgi', xqu', xwh', yN', ytu', yen', yow', ytk', ymk', ywo', yho', ywa', hREL, fun post n hn hp => ?_, fun post n hn hp => ?_⟩
      · rw [List.length_cons] at hn
        obtain ⟨n, rfl⟩ : ∃ q, n = q + 1 := ⟨n - 1, by omega⟩
        refine br_f (by rw [hW]; exact nI_ge (by omega) (by omega)) (And.intro hink (nm_r (e' := nI c) (by rw [ek, hqk]) (And.intro hinc (And.intro hinc ?_))))
        rw [ec, hwt]
        refine hGX _ ?_
        exact br_t rfl (And.intro hins (nm_r (e' := upd xqu ks.length (nI c)) (by rw [es, tp_i8 c (by omega), tp_nb (by omega)]) (nm_r (nI_1 _) (nm_r (nI_1 _) (hPX post n (by omega) hp)))))
      · obtain ⟨n, rfl⟩ : ∃ q, n = q + 1 := ⟨n - 1, by omega⟩
        refine br_f (nI_ge (b := 4) (by omega) (by decide)) (br_f (by rw [hQ]; exact nI_ge (by omega) (by omega)) (And.intro hins (And.intro hins ?_)))
        rw [es, hy1, hy2]
        have K : wY_serve_39 post (wY_serve_4 post n) (nI ks.length) (nI k) (xwh c) (nI c) yT yN yQ ytu yen yow ytk ymk xit xgi ywo yho ywa := by
          refine And.intro hins ?_
          rw [es, hy3, hwt]
          refine hGY _ ?_
          exact br_t rfl (nm_r (nI_1 _) (nm_r (nI_1 _) (hPY post n (by omega) hp)))
        rcases hh with hh | hh
        · rw [hh] at K ⊢
          exact br_f (by decide) K
        · rw [hh] at K ⊢
          exact br_t rfl K
    · obtain ⟨cs, xU', xfi', xse', xpt', xtb', xmb', xgi', xqu', xwh', yN', ytu', yen', yow', ytk', ymk', ywo', yho', ywa', hREL, hPX, hPY⟩ := ih ks (k + 1) xU1 xfi1 xse1 xpt1 xtb1 xmb1 xgi1 xqu (upd xwh c (-1)) yN1 (nI (ks.length + ps.length)) ytu1 yen1 yow1 ytk1 ymk1 (tp_sh ywo ks.length (ks.length + ps.length)) (tp_sh yho ks.length (ks.length + ps.length)) (tp_sh ywa ks.length (ks.length + ps.length)) (by omega) (by omega) hR1
        hq1 (fun i c' hi => by
          rw [show k + 1 + i = k + (i + 1) by omega]
          exact hq2 (i + 1) c' hi)
        (by rw [List.length_append]) (tp_QY_rm hQC.1 rfl hQY) (tp_QC_rm hQC)
      refine ⟨cs, xU', xfi', xse', xpt', xtb', xmb', xgi', xqu', xwh', yN', ytu', yen', yow', ytk', ymk', ywo', yho', ywa', hREL, fun post n hn hp => ?_, fun post n hn hp => ?_⟩
      · rw [List.length_cons] at hn
        obtain ⟨n, rfl⟩ : ∃ q, n = q + 1 := ⟨n - 1, by omega⟩
        refine br_f (by rw [hW]; exact nI_ge (by omega) (by omega)) (And.intro hink (nm_r (e' := nI c) (by rw [ek, hqk]) (And.intro hinc (And.intro hinc ?_))))
        rw [ec, hwt]
        refine hGX _ ?_
        exact br_f (by decide) (And.intro hinc (nm_r (e' := upd xwh c (-1)) (by rw [tp_nbm]) (nm_r (nI_1 _) (hPX post n (by omega) hp))))
      · obtain ⟨n, rfl⟩ : ∃ q, n = q + 1 := ⟨n - 1, by omega⟩
        refine br_f (nI_ge (b := 4) (by omega) (by decide)) (br_f (by rw [hQ]; exact nI_ge (by omega) (by omega)) (And.intro hins (And.intro hins ?_)))
        rw [es, hy1, hy2]
        have K : wY_serve_39 post (wY_serve_4 post n) (nI ks.length) (nI k) (xwh c) (nI c) yT yN yQ ytu yen yow ytk ymk xit xgi ywo yho ywa := by
          refine And.intro hins ?_
          rw [es, hy3, hwt]
          refine hGY _ ?_
          exact br_f (by decide) (tp_ystop (m := ks.length + ps.length) (by omega) (by omega) hQ (nm_r (nI_1 _) (hPY post n (by omega) hp)))
        rcases hh with hh | hh
        · rw [hh] at K ⊢
          exact br_f (by decide) K
        · rw [hh] at K ⊢
          exact br_t rfl K
end
end
section
/-! the whole relation; serve -/
def tp_top (k : Nat) (xU : Int32) (xA : Int64) (xT : Int32) (xW : Int32) (xV : Int32) (xtu : Nat → Int32) (xen : Nat → Int32) (xag : Nat → Int64) (xfi : Nat → Int32) (xse : Nat → Int32) (xit : Nat → Int32) (xpt : Nat → Int32) (xtb : Nat → Int32) (xmb : Nat → Int32) (xgi : Nat → Int32) (xqu : Nat → Int32) (xwh : Nat → Int32) (xwt : Nat → Int32) (yT : Int32) (yN : Int32) (yQ : Int32) (ytu : Nat → Int32) (yen : Nat → Int32) (yow : Nat → Int32) (ytk : Nat → Int32) (ymk : Nat → Int32) (ybu : Nat → Int32) (yla : Nat → Int32) (ywo : Nat → Int32) (yho : Nat → Int32) (ywa : Nat → Int32) : Prop :=
  ∃ (t a : Nat) (cs : List Nat), xT = nI t ∧ yT = nI t ∧ t ≤ 50 * k ∧ xA = lN a ∧ a ≤ k ∧ xit = ybu ∧ xgi = yla ∧ tp_R t xU xA xtu xen xag xfi xse xpt xtb xmb yN ytu yen yow ytk ymk ∧
    xW = nI cs.length ∧ yQ = nI cs.length ∧ tp_QX cs xqu ∧ tp_QY cs xwh xwt ywo yho ywa ∧ tp_QC cs xwh xwt
def i_Rel (k : Nat) (u : SX) (v : SY) : Prop := match u, v with
  | (xU, xA, xT, xW, xV, xtu, xen, xag, xfi, xse, xit, xpt, xtb, xmb, xgi, xqu, xwh, xwt), (yT, yN, yQ, ytu, yen, yow, ytk, ymk, ybu, yla, ywo, yho, ywa) => tp_top k xU xA xT xW xV xtu xen xag xfi xse xit xpt xtb xmb xgi xqu xwh xwt yT yN yQ ytu yen yow ytk ymk ybu yla ywo yho ywa
theorem tp_up {k k' : Nat} (xU : Int32) (xA : Int64) (xT : Int32) (xW : Int32) (xV : Int32) (xtu : Nat → Int32) (xen : Nat → Int32) (xag : Nat → Int64) (xfi : Nat → Int32) (xse : Nat → Int32) (xit : Nat → Int32) (xpt : Nat → Int32) (xtb : Nat → Int32) (xmb : Nat → Int32) (xgi : Nat → Int32) (xqu : Nat → Int32) (xwh : Nat → Int32) (xwt : Nat → Int32) (yT : Int32) (yN : Int32) (yQ : Int32) (ytu : Nat → Int32) (yen : Nat → Int32) (yow : Nat → Int32) (ytk : Nat → Int32) (ymk : Nat → Int32) (ybu : Nat → Int32) (yla : Nat → Int32) (ywo : Nat → Int32) (yho : Nat → Int32) (ywa : Nat → Int32) (hk : k ≤ k') (h : tp_top k xU xA xT xW xV xtu xen xag xfi xse xit xpt xtb xmb xgi xqu xwh xwt yT yN yQ ytu yen yow ytk ymk ybu yla ywo yho ywa) : tp_top k' xU xA xT xW xV xtu xen xag xfi xse xit xpt xtb xmb xgi xqu xwh xwt yT yN yQ ytu yen yow ytk ymk ybu yla ywo yho ywa := by
  obtain ⟨t, a, cs, h1, h2, h3, h4, h5, h6⟩ := h
  exact ⟨t, a, cs, h1, h2, by omega, h4, by omega, h6⟩
theorem i_up {k : Nat} {u : SX} {v : SY} (h : i_Rel k u v) : i_Rel (k + 4) u v := by
  obtain ⟨xU, xA, xT, xW, xV, xtu, xen, xag, xfi, xse, xit, xpt, xtb, xmb, xgi, xqu, xwh, xwt⟩ := u
  obtain ⟨yT, yN, yQ, ytu, yen, yow, ytk, ymk, ybu, yla, ywo, yho, ywa⟩ := v
  exact tp_up xU xA xT xW xV xtu xen xag xfi xse xit xpt xtb xmb xgi xqu xwh xwt yT yN yQ ytu yen yow ytk ymk ybu yla ywo yho ywa (by omega) h
theorem tp_cs4 {cs : List Nat} {xwh xwt : Nat → Int32} (h : tp_QC cs xwh xwt) : cs.length ≤ 4 := tp_nodup_lt h.1 fun c hc => (h.2.1 c hc).1
section
variable {xU : Int32} {xA : Int64} {xT : Int32} {xW : Int32} {xV : Int32} {xtu : Nat → Int32} {xen : Nat → Int32} {xag : Nat → Int64} {xfi : Nat → Int32} {xse : Nat → Int32} {xit : Nat → Int32} {xpt : Nat → Int32} {xtb : Nat → Int32} {xmb : Nat → Int32} {xgi : Nat → Int32} {xqu : Nat → Int32} {xwh : Nat → Int32} {xwt : Nat → Int32}
variable {yT : Int32} {yN : Int32} {yQ : Int32} {ytu : Nat → Int32} {yen : Nat → Int32} {yow : Nat → Int32} {ytk : Nat → Int32} {ymk : Nat → Int32} {ybu : Nat → Int32} {yla : Nat → Int32} {ywo : Nat → Int32} {yho : Nat → Int32} {ywa : Nat → Int32}
theorem tp_serve {k : Nat} (h : tp_top k xU xA xT xW xV xtu xen xag xfi xse xit xpt xtb xmb xgi xqu xwh xwt yT yN yQ ytu yen yow ytk ymk ybu yla ywo yho ywa) : ∃ (xU' xW' : Int32) (xfi' xse' xpt' xtb' xmb' xgi' xqu' xwh' : Nat → Int32) (yN' yQ' : Int32) (ytu' yen' yow' ytk' ymk' yla' ywo' yho' ywa' : Nat → Int32),
    tp_top k xU' xA xT xW' xV xtu xen xag xfi' xse' xit xpt' xtb' xmb' xgi' xqu' xwh' xwt yT yN' yQ' ytu' yen' yow' ytk' ymk' ybu yla' ywo' yho' ywa' ∧
    (∀ post : SX → Prop, post (xU', xA, xT, xW', xV, xtu, xen, xag, xfi', xse', xit, xpt', xtb', xmb', xgi', xqu', xwh', xwt) → wpX_serve post (xU, xA, xT, xW, xV, xtu, xen, xag, xfi, xse, xit, xpt, xtb, xmb, xgi, xqu, xwh, xwt)) ∧
    (∀ post : SY → Prop, post (yT, yN', yQ', ytu', yen', yow', ytk', ymk', ybu, yla', ywo', yho', ywa') → wpY_serve post (yT, yN, yQ, ytu, yen, yow, ytk, ymk, ybu, yla, ywo, yho, ywa)) := by
  obtain ⟨t, a, cs, h1, h2, h3, h4, h5, rfl, rfl, hR, hW, hQ, hQX, hQY, hQC⟩ := h
  have h4' := tp_cs4 hQC
  obtain ⟨cs', xU', xfi', xse', xpt', xtb', xmb', xgi', xqu', xwh', yN', ytu', yen', yow', ytk', ymk', ywo', yho', ywa', ⟨r1, r2, r3, r4⟩, hPX, hPY⟩ := tp_serveL (xT := xT) (xV := xV) (xit := xit) (yT := yT) h4' hW cs [] 0 xU xfi xse xpt xtb xmb xgi xqu xwh yN yQ ytu yen yow ytk ymk ywo yho ywa (Nat.zero_add _) (Nat.zero_le _) hR
    (fun i c hi => absurd hi (by simp)) (fun i c hi => by rw [Nat.zero_add]; exact hQX i c hi) hQ hQY hQC
  refine ⟨xU', nI cs'.length, xfi', xse', xpt', xtb', xmb', xgi', xqu', xwh', yN', nI cs'.length, ytu', yen', yow', ytk', ymk', xgi', ywo', yho', ywa', ⟨t, a, cs', h1, h2, h3, h4, h5, rfl, rfl, r1, rfl, rfl, r2, r3, r4⟩, fun post hp => ?_, fun post hp => ?_⟩
  · exact Exists.intro (cs.length + 1) (hPX post _ (by omega) hp)
  · exact Exists.intro 5 (hPY post 5 (by omega) hp)
theorem tp_xcl1 {post : Int32 → Prop} {c : Nat} (hc : c < 4) (hp : post 1) : wpX_isClient post (xU, xA, xT, xW, xV, xtu, xen, xag, xfi, xse, xit, xpt, xtb, xmb, xgi, xqu, xwh, xwt) (nI c) := br_f (nI_pos (by omega)) (br_f (nI_ge (b := 4) hc (by decide)) hp)
theorem tp_xcl0 {post : Int32 → Prop} {v : Int32} (h : v < 0 ∨ nI 4 ≤ v) (hp : post 0) : wpX_isClient post (xU, xA, xT, xW, xV, xtu, xen, xag, xfi, xse, xit, xpt, xtb, xmb, xgi, xqu, xwh, xwt) v := by
  by_cases h1 : v < 0
  · exact br_t h1 hp
  · exact br_f h1 (br_t (h.resolve_left h1) hp)
theorem tp_xwt1 {post : Int32 → Prop} {cs : List Nat} {c : Nat} (hQC : tp_QC cs xwh xwt) (hc : c ∈ cs) (hp : post 1) : wpX_isWaiting post (xU, xA, xT, xW, xV, xtu, xen, xag, xfi, xse, xit, xpt, xtb, xmb, xgi, xqu, xwh, xwt) (nI c) := by
  obtain ⟨h4, hh, _⟩ := hQC.2.1 c hc
  refine And.intro (vp_in_nI h4 (by decide)) ?_
  rw [nI_clamp (by omega)]
  refine br_f ?_ hp
  rcases hh with hh | hh <;> rw [hh] <;> decide
theorem tp_xwt0 {post : Int32 → Prop} {cs : List Nat} {c : Nat} (hQC : tp_QC cs xwh xwt) (h4 : c < 4) (hc : ¬ c ∈ cs) (hp : post 0) : wpX_isWaiting post (xU, xA, xT, xW, xV, xtu, xen, xag, xfi, xse, xit, xpt, xtb, xmb, xgi, xqu, xwh, xwt) (nI c) := by
  refine And.intro (vp_in_nI h4 (by decide)) ?_
  rw [nI_clamp (by omega), hQC.2.2 c h4 hc]
  exact br_t tp_m1lt hp
theorem tp_bad {v : Int32} (h : ¬ (v < 0 ∨ nI 4 ≤ v)) : ∃ c : Nat, c < 4 ∧ v = nI c := by
  rcases pk_ix v (n := 4) (by decide) with z | z | z
  · exact absurd (Or.inl z) h
  · exact absurd (Or.inr z) h
  · exact z
/-- queued, for a client -/
theorem tp_yq1 {post : Int32 → Prop} {cs : List Nat} {c : Nat} (hQ : yQ = nI cs.length) (hQY : tp_QY cs xwh xwt ywo yho ywa) (hQC : tp_QC cs xwh xwt) (h4 : c < 4) (h1 : ∀ i, cs[i]? = some c → post (nI i)) (h0 : ¬ c ∈ cs → post (-1)) : wpY_queued post (yT, yN, yQ, ytu, yen, yow, ytk, ymk, ybu, yla, ywo, yho, ywa) (nI c) := by
  refine tp_yqueued hQ (tp_cs4 hQC) (fun i c' hi => (hQY i c' hi).1) (fun i c' hi z => ?_) (fun z => h0 fun w => z c w rfl)
  have w := (hQC.2.1 c' (List.mem_of_getElem? hi)).1
  have e := (nI_eq (by omega) (by omega)).mp z
  subst e
  exact h1 i hi
theorem tp_xplL {post : Int32 → Prop} {cs : List Nat} {v : Int32} (hW : xW = nI cs.length) (h4 : cs.length ≤ 4) (hw : tp_QX cs xqu) (h1 : ∀ i c, cs[i]? = some c → v = nI c → post (nI i)) (h0 : (∀ c, c ∈ cs → ¬ v = nI c) → post (-4)) :
    ∀ (d i : Nat), i + d = cs.length → (∀ j c, j < i → cs[j]? = some c → ¬ v = nI c) → ∀ n, d < n → wX_place_12 post v xU xA xT xW xV xtu xen xag xfi xse xit xpt xtb xmb xgi xqu xwh xwt n (nI i) := by
  intro d
  induction d with
  | zero =>
    intro i hi hj n hn
    obtain ⟨n, rfl⟩ : ∃ q, n = q + 1 := ⟨n - 1, by omega⟩
    refine br_t (by rw [hW]; exact nI_le (by omega) (by omega)) (h0 fun c hc => ?_)
    obtain ⟨j, hj'⟩ := List.getElem?_of_mem hc
    have := (List.getElem?_eq_some_iff.mp hj').1
    exact hj j c (by omega) hj'
  | succ d ih =>
    intro i hi hj n hn
    obtain ⟨n, rfl⟩ : ∃ q, n = q + 1 := ⟨n - 1, by omega⟩
    obtain ⟨c, hc⟩ : ∃ c, cs[i]? = some c := ⟨_, List.getElem?_eq_getElem (by omega)⟩
    have e : (nI i).toNatClampNeg = i := nI_clamp (by omega)
    refine br_f (by rw [hW]; exact nI_ge (by omega) (by omega)) (And.intro (vp_in_nI (by omega) (by decide)) ?_)
    rw [e, hw i c hc]
    by_cases z : nI c = v
    · exact br_t z (h1 i c hc z.symm)
    · refine br_f z (nm_r (nI_1 i) (ih (i + 1) (by omega) (fun j c' hji hc' => ?_) n (by omega)))
      by_cases y : j = i
      · subst y
        rw [hc] at hc'
        cases hc'
        exact fun x => z x.symm
      · exact hj j c' (by omega) hc'
end
theorem tp_idx {cs : List Nat} (nd : cs.Nodup) {i j c : Nat} (hi : cs[i]? = some c) (hj : cs[j]? = some c) : i = j := by
  obtain ⟨h1, e1⟩ := List.getElem?_eq_some_iff.mp hi
  obtain ⟨h2, e2⟩ := List.getElem?_eq_some_iff.mp hj
  exact (List.getElem_inj nd).mp (e1.trans e2.symm)
end
section
/-! given, begin, state, place, entries, level -/
theorem i_vc_given {k : Nat} {u : SX} {v : SY} (I : i_Rel k u v) (hk : k + 4 ≤ 2048) (v1 : Int32) : wpX_given (fun r => wpY_given (fun r' => r' = r ∧ i_Rel (k + 4) u v) v v1) u v1 := by
  have J := i_up I
  obtain ⟨xU, xA, xT, xW, xV, xtu, xen, xag, xfi, xse, xit, xpt, xtb, xmb, xgi, xqu, xwh, xwt⟩ := u
  obtain ⟨yT, yN, yQ, ytu, yen, yow, ytk, ymk, ybu, yla, ywo, yho, ywa⟩ := v
  obtain ⟨t, a, cs, rfl, rfl, ht, rfl, ha, rfl, rfl, hR, rfl, rfl, hQX, hQY, hQC⟩ := I
  unfold wpX_given wpY_given
  by_cases hb : v1 < 0 ∨ nI 4 ≤ v1
  · refine tp_xcl0 hb (br_t rfl ?_)
    exact tp_ycl0 hb (br_t rfl ⟨rfl, J⟩)
  · obtain ⟨c, hc, rfl⟩ := tp_bad hb
    have hin : vp_in (nI c) 4 := vp_in_nI hc (by decide)
    refine tp_xcl1 hc (br_f (by decide) (And.intro hin ?_))
    exact tp_ycl1 hc (br_f (by decide) (And.intro hin ⟨rfl, J⟩))
theorem i_vc_begin {k : Nat} {u : SX} {v : SY} (I : i_Rel k u v) (hk : k + 4 ≤ 2048) (v1 : Int32) : wpX_begin (fun r u' => wpY_begin (fun r' v' => r' = r ∧ i_Rel (k + 4) u' v') v v1) u v1 := by
  have J := i_up I
  obtain ⟨xU, xA, xT, xW, xV, xtu, xen, xag, xfi, xse, xit, xpt, xtb, xmb, xgi, xqu, xwh, xwt⟩ := u
  obtain ⟨yT, yN, yQ, ytu, yen, yow, ytk, ymk, ybu, yla, ywo, yho, ywa⟩ := v
  obtain ⟨t, a, cs, rfl, rfl, ht, rfl, ha, rfl, rfl, hR, rfl, rfl, hQX, hQY, hQC⟩ := I
  unfold wpX_begin
  by_cases hb : v1 < 0 ∨ nI 4 ≤ v1
  · refine tp_xcl0 hb (br_t rfl ?_)
    unfold wpY_begin
    exact tp_ycl0 hb (br_t rfl ⟨rfl, J⟩)
  · obtain ⟨c, hc, rfl⟩ := tp_bad hb
    have hin : vp_in (nI c) 4 := vp_in_nI hc (by decide)
    refine tp_xcl1 hc (br_f (by decide) ?_)
    by_cases hm : c ∈ cs
    · refine tp_xwt1 hQC hm (br_f (by decide) ?_)
      unfold wpY_begin
      refine tp_ycl1 hc (br_f (by decide) ?_)
      refine tp_yq1 rfl hQY hQC hc (fun i hi => ?_) (fun z => absurd hm z)
      have hl := (List.getElem?_eq_some_iff.mp hi).1
      have h4 := tp_cs4 hQC
      exact br_t (nI_pos' (by omega)) ⟨rfl, J⟩
    · refine tp_xwt0 hQC hc hm (br_t rfl (And.intro hin ?_))
      have Y1 : ∀ (post : Int32 → SY → Prop), (0 ≤ (-1 : Int32) → post 0 ((nI t), yN, (nI cs.length), ytu, yen, yow, ytk, ymk, xit, xgi, ywo, yho, ywa)) ∧ (¬ 0 ≤ (-1 : Int32) → (vp_in (nI c) 4 ∧ ((xit (nI c).toNatClampNeg = 0 → (vp_in (nI c) 4 ∧ ∀ b, b = upd xit (nI c).toNatClampNeg (vp_nar .boolean 1) → post 1 ((nI t), yN, (nI cs.length), ytu, yen, yow, ytk, ymk, b, xgi, ywo, yho, ywa))) ∧ (¬ xit (nI c).toNatClampNeg = 0 → post 0 ((nI t), yN, (nI cs.length), ytu, yen, yow, ytk, ymk, xit, xgi, ywo, yho, ywa))))) → wpY_begin post ((nI t), yN, (nI cs.length), ytu, yen, yow, ytk, ymk, xit, xgi, ywo, yho, ywa) (nI c) := by
        intro post hp
        unfold wpY_begin
        refine tp_ycl1 hc (br_f (by decide) ?_)
        exact tp_yq1 rfl hQY hQC hc (fun i hi => absurd (List.mem_of_getElem? hi) hm) (fun _ => hp)
      by_cases hz : xit (nI c).toNatClampNeg = 0
      · refine br_t hz (And.intro hin (nm_e (Y1 _ (br_f (by decide) (And.intro hin (br_t hz (And.intro hin (nm_e ⟨rfl, ?_⟩))))))))
        exact ⟨t, a, cs, rfl, rfl, by omega, rfl, by omega, rfl, rfl, hR, rfl, rfl, hQX, hQY, hQC⟩
      · exact br_f hz (Y1 _ (br_f (by decide) (And.intro hin (br_f hz ⟨rfl, J⟩))))
theorem i_vc_state {k : Nat} {u : SX} {v : SY} (I : i_Rel k u v) (hk : k + 4 ≤ 2048) (v1 : Int32) : wpX_state (fun r => wpY_state (fun r' => r' = r ∧ i_Rel (k + 4) u v) v v1) u v1 := by
  have J := i_up I
  obtain ⟨xU, xA, xT, xW, xV, xtu, xen, xag, xfi, xse, xit, xpt, xtb, xmb, xgi, xqu, xwh, xwt⟩ := u
  obtain ⟨yT, yN, yQ, ytu, yen, yow, ytk, ymk, ybu, yla, ywo, yho, ywa⟩ := v
  obtain ⟨t, a, cs, rfl, rfl, ht, rfl, ha, rfl, rfl, hR, rfl, rfl, hQX, hQY, hQC⟩ := I
  unfold wpX_state wpY_state
  by_cases hb : v1 < 0 ∨ nI 4 ≤ v1
  · refine tp_xcl0 hb (br_t rfl ?_)
    exact tp_ycl0 hb (br_t rfl ⟨rfl, J⟩)
  · obtain ⟨c, hc, rfl⟩ := tp_bad hb
    have hin : vp_in (nI c) 4 := vp_in_nI hc (by decide)
    have ec : (nI c).toNatClampNeg = c := nI_clamp (by omega)
    have h4 := tp_cs4 hQC
    refine tp_xcl1 hc (br_f (by decide) (And.intro hin (And.intro hin ?_)))
    rw [ec]
    by_cases hz : xit c = 0
    · refine br_t hz (tp_ycl1 hc (br_f (by decide) (tp_yq1 rfl hQY hQC hc (fun i hi => ?_) (fun z => ?_))))
      · have hl := (List.getElem?_eq_some_iff.mp hi).1
        have ei : (nI i).toNatClampNeg = i := nI_clamp (by omega)
        refine br_t (nI_pos' (by omega)) (And.intro (vp_in_nI (by omega) (by decide)) (And.intro hin ?_))
        rw [ec, ei, (hQY i c hi).2.1]
        exact br_t hz ⟨rfl, J⟩
      · refine br_f (by decide) (And.intro hin ?_)
        rw [ec, hQC.2.2 c hc z]
        exact br_t hz ⟨by decide, J⟩
    · refine br_f hz (tp_ycl1 hc (br_f (by decide) (tp_yq1 rfl hQY hQC hc (fun i hi => ?_) (fun z => ?_))))
      · have hl := (List.getElem?_eq_some_iff.mp hi).1
        have ei : (nI i).toNatClampNeg = i := nI_clamp (by omega)
        refine br_t (nI_pos' (by omega)) (And.intro (vp_in_nI (by omega) (by decide)) (And.intro hin ?_))
        rw [ec, ei, (hQY i c hi).2.1]
        exact br_f hz ⟨rfl, J⟩
      · refine br_f (by decide) (And.intro hin ?_)
        rw [ec, hQC.2.2 c hc z]
        exact br_f hz ⟨by decide, J⟩
theorem i_vc_place {k : Nat} {u : SX} {v : SY} (I : i_Rel k u v) (hk : k + 4 ≤ 2048) (v1 : Int32) : wpX_place (fun r => wpY_place (fun r' => r' = r ∧ i_Rel (k + 4) u v) v v1) u v1 := by
  have J := i_up I
  obtain ⟨xU, xA, xT, xW, xV, xtu, xen, xag, xfi, xse, xit, xpt, xtb, xmb, xgi, xqu, xwh, xwt⟩ := u
  obtain ⟨yT, yN, yQ, ytu, yen, yow, ytk, ymk, ybu, yla, ywo, yho, ywa⟩ := v
  obtain ⟨t, a, cs, rfl, rfl, ht, rfl, ha, rfl, rfl, hR, rfl, rfl, hQX, hQY, hQC⟩ := I
  unfold wpX_place wpY_place
  by_cases hb : v1 < 0 ∨ nI 4 ≤ v1
  · refine tp_xcl0 hb (br_t rfl ?_)
    exact tp_ycl0 hb (br_t rfl ⟨rfl, J⟩)
  · obtain ⟨c, hc, rfl⟩ := tp_bad hb
    have h4 := tp_cs4 hQC
    refine tp_xcl1 hc (br_f (by decide) (Exists.intro _ (tp_xplL rfl h4 hQX (fun i c' hi z => ?_) (fun z => ?_) cs.length 0 (Nat.zero_add _) (fun j c h => absurd h (by omega)) _ (Nat.lt_succ_self _))))
    · have w := (hQC.2.1 c' (List.mem_of_getElem? hi)).1
      have e := (nI_eq (by omega) (by omega)).mp z
      subst e
      have hl := (List.getElem?_eq_some_iff.mp hi).1
      refine tp_ycl1 hc (br_f (by decide) (tp_yq1 rfl hQY hQC hc (fun j hj => ?_) (fun y => absurd (List.mem_of_getElem? hi) y)))
      rw [tp_idx hQC.1 hj hi]
      exact br_t (nI_pos' (by omega)) ⟨rfl, J⟩
    · refine tp_ycl1 hc (br_f (by decide) (tp_yq1 rfl hQY hQC hc (fun j hj => absurd rfl (z c (List.mem_of_getElem? hj))) (fun _ => ?_)))
      exact br_f (by decide) ⟨rfl, J⟩
theorem i_vc_entries {k : Nat} {u : SX} {v : SY} (I : i_Rel k u v) (hk : k + 4 ≤ 2048) : wpX_entries (fun r => wpY_entries (fun r' => r' = r ∧ i_Rel (k + 4) u v) v) u := by
  have J := i_up I
  obtain ⟨xU, xA, xT, xW, xV, xtu, xen, xag, xfi, xse, xit, xpt, xtb, xmb, xgi, xqu, xwh, xwt⟩ := u
  obtain ⟨yT, yN, yQ, ytu, yen, yow, ytk, ymk, ybu, yla, ywo, yho, ywa⟩ := v
  obtain ⟨t, a, cs, rfl, rfl, ht, rfl, ha, rfl, rfl, hR, rfl, rfl, hQX, hQY, hQC⟩ := I
  obtain ⟨l, en, ow, tk, mk, hX, hG, hE, hY⟩ := hR
  unfold wpX_entries wpY_entries
  refine tp_onesIn (tp_nd hX.2.1) (fun s hs => Nat.lt_trans (hX.1 s hs) (by decide)) hX.2.2.2.1 ⟨?_, J⟩
  rw [hY.1, List.length_map]
theorem i_vc_level {k : Nat} {u : SX} {v : SY} (I : i_Rel k u v) (hk : k + 4 ≤ 2048) (v1 : Int32) : wpX_level (fun r u' => wpY_level (fun r' => r' = r ∧ i_Rel (k + 4) u' v) v v1) u v1 := by
  have J := i_up I
  obtain ⟨xU, xA, xT, xW, xV, xtu, xen, xag, xfi, xse, xit, xpt, xtb, xmb, xgi, xqu, xwh, xwt⟩ := u
  obtain ⟨yT, yN, yQ, ytu, yen, yow, ytk, ymk, ybu, yla, ywo, yho, ywa⟩ := v
  have J2 : i_Rel (k + 4) (xU, xA, xT, xW, v1, xtu, xen, xag, xfi, xse, xit, xpt, xtb, xmb, xgi, xqu, xwh, xwt) (yT, yN, yQ, ytu, yen, yow, ytk, ymk, ybu, yla, ywo, yho, ywa) := J
  unfold wpX_level wpY_level
  by_cases h0 : v1 < 0
  · have n0 : ¬ v1 = 0 := fun z => absurd (z ▸ h0) (by decide)
    have n1 : ¬ v1 = 1 := fun z => absurd (z ▸ h0) (by decide)
    exact br_t h0 (br_f n0 (br_f n1 ⟨rfl, J⟩))
  · refine br_f h0 ?_
    by_cases h1 : v1 ≤ 1
    · obtain ⟨j, hj, rfl⟩ := nI_of2 (M := 1) (n := 1) (by decide) h0 h1
      refine br_t h1 ?_
      by_cases z : j = 0
      · subst z
        exact br_t rfl ⟨rfl, J2⟩
      · have e : j = 1 := by omega
        subst e
        exact br_f (by decide) (br_t rfl ⟨rfl, J2⟩)
    · have n0 : ¬ v1 = 0 := fun z => h1 (by rw [z]; decide)
      have n1 : ¬ v1 = 1 := fun z => h1 (by rw [z]; decide)
      exact br_f h1 (br_f n0 (br_f n1 ⟨rfl, J⟩))
end
section
/-! count, seen, next -/
section
variable {xU : Int32} {xA : Int64} {xT : Int32} {xW : Int32} {xV : Int32} {xtu : Nat → Int32} {xen : Nat → Int32} {xag : Nat → Int64} {xfi : Nat → Int32} {xse : Nat → Int32} {xit : Nat → Int32} {xpt : Nat → Int32} {xtb : Nat → Int32} {xmb : Nat → Int32} {xgi : Nat → Int32} {xqu : Nat → Int32} {xwh : Nat → Int32} {xwt : Nat → Int32}
theorem tp_xtm1 {post : Int32 → Prop} {q : Nat} (hq : q ≤ 288) (hp : post 1) : wpX_isTemplate post (xU, xA, xT, xW, xV, xtu, xen, xag, xfi, xse, xit, xpt, xtb, xmb, xgi, xqu, xwh, xwt) (nI q) := br_f (nI_pos (by omega)) (br_f (nI_nlt (a := 288) hq (by decide)) hp)
theorem tp_xtm0 {post : Int32 → Prop} {v : Int32} (h : v < 0 ∨ 288 < v) (hp : post 0) : wpX_isTemplate post (xU, xA, xT, xW, xV, xtu, xen, xag, xfi, xse, xit, xpt, xtb, xmb, xgi, xqu, xwh, xwt) v := by
  by_cases h1 : v < 0
  · exact br_t h1 hp
  · exact br_f h1 (br_t (h.resolve_left h1) hp)
theorem tp_tm {v : Int32} (h : ¬ (v < 0 ∨ 288 < v)) : ∃ q : Nat, q ≤ 288 ∧ v = nI q :=
  nI_of2 (M := 288) (n := 288) (by decide) (fun z => h (Or.inl z)) (Int32.not_lt.mp fun z => h (Or.inr z))
theorem tp_xset {post : Int32 → Prop} {l : List Nat} {en ow tk mk : Nat → Int32} (hX : tp_XE l ow tk mk xU xA xtu xag xfi xse xpt xtb xmb) (hR : tp_RG l xtu ow tk mk) {c q : Nat} (hc : c < 4) (hq : q ≤ 288)
    (k : ∀ S, tp_SL (l.filter (fun s => tp_pS (nI c) (nI q) (tp_at xtu en ow tk mk s))) S → post S) : wpX_fitting (fun r_41 => wpX_seenBy (fun r_60 => ∀ x, x = r_41 &&& r_60 → post x) (xU, xA, xT, xW, xV, xtu, xen, xag, xfi, xse, xit, xpt, xtb, xmb, xgi, xqu, xwh, xwt) (nI c)) (xU, xA, xT, xW, xV, xtu, xen, xag, xfi, xse, xit, xpt, xtb, xmb, xgi, xqu, xwh, xwt) (nI q) := by
  have hX' := hX
  obtain ⟨h1, _, _, h4, h5, h6, _, _, _⟩ := hX'
  refine tp_fitting hq h1 h4 h5 h6 fun S1 hS1 => ?_
  refine tp_seenBy hX hR hc fun S0 hS0 => nm_e (k _ (tp_SP_SL fun i hi => ?_))
  rw [b_and, Bool.and_eq_true, hS1 i hi, hS0 i hi]
  show _ ↔ _ ∧ (tp_fit (xtu i) (nI q) && tp_sn (ow i) (tk i) (nI c)) = true
  rw [Bool.and_eq_true]
  exact ⟨fun q => ⟨q.1.1, q.1.2, q.2.2⟩, fun q => ⟨⟨q.1, q.2.1⟩, q.1, q.2.2⟩⟩
theorem tp_xseL {post : Int32 → Prop} {m : List Nat} {k : Nat} (hso : m.Pairwise (fun a b => xag a < xag b)) (hl : ∀ x, x ∈ m → x < 20) (hk : k < m.length) (hm : m.length < 2 ^ 31) (hp : ∀ s, m[k]? = some s → post (xtu s)) :
    ∀ (d i : Nat), i + d = k → ∀ (S : Int32) (s : Nat) (rest : List Nat), m.drop i = s :: rest → tp_SL (s :: rest) S → ∀ n, d < n → wX_seen_63 post (nI k) xU xA xT xW xV xtu xen xag xfi xse xit xpt xtb xmb xgi xqu xwh xwt n S (nI s) (nI i) := by
  intro d
  induction d with
  | zero =>
    intro i hi S s rest hd hS n hn
    obtain ⟨n, rfl⟩ : ∃ q, n = q + 1 := ⟨n - 1, by omega⟩
    have e : i = k := by omega
    subst e
    have hs : m[i]? = some s := by
      rw [← Nat.add_zero i, ← List.getElem?_drop, hd]
      rfl
    have h20 := hl s (List.mem_of_getElem? hs)
    refine br_t (nI_le (by omega) (by omega)) (And.intro (vp_in_nI h20 (by decide)) ?_)
    rw [nI_clamp (by omega)]
    exact hp s hs
  | succ d ih =>
    intro i hi S s rest hd hS n hn
    obtain ⟨n, rfl⟩ : ∃ q, n = q + 1 := ⟨n - 1, by omega⟩
    have hs : m[i]? = some s := by
      rw [← Nat.add_zero i, ← List.getElem?_drop, hd]
      rfl
    have h20 := hl s (List.mem_of_getElem? hs)
    have hso' : (s :: rest).Pairwise (fun a b => xag a < xag b) := by
      rw [← hd]
      exact hso.sublist (List.drop_sublist i m)
    have hd' : m.drop (i + 1) = rest := by
      rw [← List.drop_drop, hd]
      rfl
    have hS' := tp_SL_tail (by omega) (tp_nd hso') hS
    cases hr : rest with
    | nil =>
      have w : (m.drop (i + 1)).length = 0 := by rw [hd', hr]; rfl
      rw [List.length_drop] at w
      omega
    | cons s' rest' =>
      rw [hr] at hS' hd' hso'
      refine br_f (nI_ge (by omega) (by omega)) (nm_e (tp_oldest ((List.pairwise_cons.mp hso').2) (fun x hx => hl x ?_) hS' (nm_r (nI_1 i) (ih (i + 1) (by omega) _ s' rest' hd' hS' n (by omega)))))
      rw [← hd'] at hx
      exact List.mem_of_mem_drop hx
end
section
variable {yT : Int32} {yN : Int32} {yQ : Int32} {ytu : Nat → Int32} {yen : Nat → Int32} {yow : Nat → Int32} {ytk : Nat → Int32} {ymk : Nat → Int32} {ybu : Nat → Int32} {yla : Nat → Int32} {ywo : Nat → Int32} {yho : Nat → Int32} {ywa : Nat → Int32}
theorem tp_ycS {c m : Int32} {es : List tp_E} {e : tp_E} {i : Nat} (hE : tp_YE es yN ytu yen yow ytk ymk) (hi : es[i]? = some e) {P1 P0 : Prop} (h1 : tp_pS c m e = true → P1) (h0 : tp_pS c m e = false → P0) :
    wpY_isSeen (fun r_32 => (r_32 = 0 → P0) ∧ (¬ r_32 = 0 → vp_in (nI i) 20 ∧ wpY_fits (fun r_49 => (r_49 = 0 → P0) ∧ (¬ r_49 = 0 → P1)) (yT, yN, yQ, ytu, yen, yow, ytk, ymk, ybu, yla, ywo, yho, ywa) (ytu (nI i).toNatClampNeg) m)) (yT, yN, yQ, ytu, yen, yow, ytk, ymk, ybu, yla, ywo, yho, ywa) (nI i) c := by
  obtain ⟨hN, h20, hA⟩ := hE
  have hl := (List.getElem?_eq_some_iff.mp hi).1
  have he := hA i e hi
  subst he
  have e1 : (nI i).toNatClampNeg = i := nI_clamp (by omega)
  refine tp_yseen (by omega) (fun a => ?_) (fun a => ?_)
  · refine br_f (by decide) (And.intro (vp_in_nI (by omega) (by decide)) ?_)
    rw [e1]
    refine tp_yfits (fun b => ?_) (fun b => ?_)
    · exact br_f (by decide) (h1 (by simp [tp_pS, tp_at, a, b]))
    · exact br_t rfl (h0 (by simp [tp_pS, tp_at, b]))
  · exact br_t rfl (h0 (by simp [tp_pS, tp_at, a]))
theorem tp_dropS {α : Type} {l : List α} {i : Nat} {e : α} (h : l[i]? = some e) : l.drop i = e :: l.drop (i + 1) := by
  obtain ⟨h1, h2⟩ := List.getElem?_eq_some_iff.mp h
  rw [List.drop_eq_getElem_cons h1, h2]
theorem tp_ycL {post : Int32 → Prop} {c m : Int32} {es : List tp_E} (hE : tp_YE es yN ytu yen yow ytk ymk) :
    ∀ (d i : Nat), i + d = es.length → ∀ (r n : Nat), d < n → post (nI (r + ((es.drop i).filter (tp_pS c m)).length)) → wY_count_27 post c m yT yN yQ ytu yen yow ytk ymk ybu yla ywo yho ywa n (nI r) (nI i) := by
  intro d
  induction d with
  | zero =>
    intro i hi r n hn hp
    obtain ⟨n, rfl⟩ : ∃ q, n = q + 1 := ⟨n - 1, by omega⟩
    obtain ⟨hN, h20, hA⟩ := hE
    rw [List.drop_eq_nil_of_le (by omega)] at hp
    exact br_t (by rw [hN]; exact nI_le (by omega) (by omega)) hp
  | succ d ih =>
    intro i hi r n hn hp
    obtain ⟨n, rfl⟩ : ∃ q, n = q + 1 := ⟨n - 1, by omega⟩
    obtain ⟨e, he⟩ : ∃ e, es[i]? = some e := ⟨_, List.getElem?_eq_getElem (by omega)⟩
    rw [tp_dropS he] at hp
    have hN := hE.1
    have h20 := hE.2.1
    have K1 : tp_pS c m e = true → wY_count_27 post c m yT yN yQ ytu yen yow ytk ymk ybu yla ywo yho ywa n (nI r + 1) (nI i + 1) := by
      intro z
      rw [List.filter_cons_of_pos z, List.length_cons] at hp
      rw [nI_1, nI_1]
      refine ih (i + 1) (by omega) (r + 1) n (by omega) ?_
      rw [show r + 1 + ((es.drop (i + 1)).filter (tp_pS c m)).length = r + (((es.drop (i + 1)).filter (tp_pS c m)).length + 1) by omega]
      exact hp
    have K0 : tp_pS c m e = false → wY_count_27 post c m yT yN yQ ytu yen yow ytk ymk ybu yla ywo yho ywa n (nI r) (nI i + 1) := by
      intro z
      rw [List.filter_cons_of_neg (by rw [z]; simp)] at hp
      rw [nI_1]
      exact ih (i + 1) (by omega) r n (by omega) hp
    refine br_f (by rw [hN]; exact nI_ge (by omega) (by omega)) ?_
    exact tp_ycS hE he (fun z => nm_e (nm_e (K1 z))) (fun z => nm_e (K0 z))
theorem tp_ysnL {post : Int32 → Prop} {c m v : Int32} {es : List tp_E} (hE : tp_YE es yN ytu yen yow ytk ymk) :
    ∀ (d i : Nat), i + d = es.length → ∀ (r n : Nat), d < n → (∀ j e, ((es.drop i).filter (tp_pS c m))[j]? = some e → v = nI (r + j) → post e.1) → ((∀ j, j < ((es.drop i).filter (tp_pS c m)).length → ¬ v = nI (r + j)) → post (-4)) → wY_seen_28 post c m v yT yN yQ ytu yen yow ytk ymk ybu yla ywo yho ywa n (nI r) (nI i) := by
  intro d
  induction d with
  | zero =>
    intro i hi r n hn hp1 hp0
    obtain ⟨n, rfl⟩ : ∃ q, n = q + 1 := ⟨n - 1, by omega⟩
    obtain ⟨hN, h20, hA⟩ := hE
    rw [List.drop_eq_nil_of_le (by omega)] at hp0
    exact br_t (by rw [hN]; exact nI_le (by omega) (by omega)) (hp0 fun j hj => absurd hj (by simp))
  | succ d ih =>
    intro i hi r n hn hp1 hp0
    obtain ⟨n, rfl⟩ : ∃ q, n = q + 1 := ⟨n - 1, by omega⟩
    obtain ⟨e, he⟩ : ∃ e, es[i]? = some e := ⟨_, List.getElem?_eq_getElem (by omega)⟩
    rw [tp_dropS he] at hp1 hp0
    have hN := hE.1
    have h20 := hE.2.1
    have hat := hE.2.2 i e he
    have e1 : (nI i).toNatClampNeg = i := nI_clamp (by omega)
    have K1 : tp_pS c m e = true → ((nI r = v → vp_in (nI i) 20 ∧ post (ytu (nI i).toNatClampNeg)) ∧ (¬ nI r = v → ∀ x4, x4 = nI r + 1 → ∀ x5, x5 = nI i + 1 → wY_seen_28 post c m v yT yN yQ ytu yen yow ytk ymk ybu yla ywo yho ywa n x4 x5)) := by
      intro z
      rw [List.filter_cons_of_pos z] at hp1 hp0
      by_cases y : nI r = v
      · refine br_t y (And.intro (vp_in_nI (by omega) (by decide)) ?_)
        have w := hp1 0 e rfl y.symm
        rw [e1]
        rw [← hat] at w
        exact w
      · refine br_f y (nm_r (nI_1 r) (nm_r (nI_1 i) (ih (i + 1) (by omega) (r + 1) n (by omega) (fun j e' hj hv => ?_) (fun hj => ?_))))
        · exact hp1 (j + 1) e' hj (by rw [hv]; congr 1; omega)
        · refine hp0 fun j hjl => ?_
          cases j with
          | zero => exact fun x => y x.symm
          | succ j =>
            rw [List.length_cons] at hjl
            have w := hj j (by omega)
            rw [show r + (j + 1) = r + 1 + j by omega]
            exact w
    have K0 : tp_pS c m e = false → wY_seen_28 post c m v yT yN yQ ytu yen yow ytk ymk ybu yla ywo yho ywa n (nI r) (nI i + 1) := by
      intro z
      rw [List.filter_cons_of_neg (by rw [z]; simp)] at hp1 hp0
      rw [nI_1]
      exact ih (i + 1) (by omega) r n (by omega) hp1 hp0
    refine br_f (by rw [hN]; exact nI_ge (by omega) (by omega)) ?_
    exact tp_ycS hE he K1 (fun z => nm_e (K0 z))
end
theorem i_vc_count {k : Nat} {u : SX} {v : SY} (I : i_Rel k u v) (hk : k + 4 ≤ 2048) (v1 : Int32) (v2 : Int32) : wpX_count (fun r => wpY_count (fun r' => r' = r ∧ i_Rel (k + 4) u v) v v1 v2) u v1 v2 := by
  have J := i_up I
  obtain ⟨xU, xA, xT, xW, xV, xtu, xen, xag, xfi, xse, xit, xpt, xtb, xmb, xgi, xqu, xwh, xwt⟩ := u
  obtain ⟨yT, yN, yQ, ytu, yen, yow, ytk, ymk, ybu, yla, ywo, yho, ywa⟩ := v
  obtain ⟨t, a, cs, rfl, rfl, ht, rfl, ha, rfl, rfl, hR, rfl, rfl, hQX, hQY, hQC⟩ := I
  obtain ⟨l, en, ow, tk, mk, hX, hG, hE, hY⟩ := hR
  unfold wpX_count wpY_count
  by_cases hb : v1 < 0 ∨ nI 4 ≤ v1
  · refine tp_xcl0 hb (br_t rfl ?_)
    exact tp_ycl0 hb (br_t rfl ⟨rfl, J⟩)
  · obtain ⟨c, hc, rfl⟩ := tp_bad hb
    refine tp_xcl1 hc (br_f (by decide) ?_)
    by_cases hm : v2 < 0 ∨ 288 < v2
    · refine tp_xtm0 hm (br_t rfl ?_)
      exact tp_ycl1 hc (br_f (by decide) (tp_yin0 hm (br_t rfl ⟨rfl, J⟩)))
    · obtain ⟨q, hq, rfl⟩ := tp_tm hm
      have hm1 : ¬ nI q < 0 := fun z => hm (Or.inl z)
      have hm2 : ¬ (288 : Int32) < nI q := fun z => hm (Or.inr z)
      refine tp_xtm1 hq (br_f (by decide) ?_)
      refine tp_xset (en := en) hX hG hc hq fun S hS => ?_
      have hnd := tp_nd (hX.2.1.filter (fun s => tp_pS (nI c) (nI q) (tp_at xtu en ow tk mk s)))
      refine tp_onesIn hnd (fun s hs => Nat.lt_trans (hX.1 s (List.mem_filter.mp hs).1) (by decide)) hS ?_
      refine tp_ycl1 hc (br_f (by decide) (tp_yin1 hm1 hm2 (br_f (by decide) (Exists.intro _ (tp_ycL hY _ 0 (Nat.zero_add _) 0 _ (Nat.lt_succ_self _) ⟨?_, J⟩)))))
      rw [List.drop_zero, List.filter_map, List.length_map, Nat.zero_add]
      rfl
theorem i_vc_seen {k : Nat} {u : SX} {v : SY} (I : i_Rel k u v) (hk : k + 4 ≤ 2048) (v1 : Int32) (v2 : Int32) (v3 : Int32) : wpX_seen (fun r => wpY_seen (fun r' => r' = r ∧ i_Rel (k + 4) u v) v v1 v2 v3) u v1 v2 v3 := by
  have J := i_up I
  obtain ⟨xU, xA, xT, xW, xV, xtu, xen, xag, xfi, xse, xit, xpt, xtb, xmb, xgi, xqu, xwh, xwt⟩ := u
  obtain ⟨yT, yN, yQ, ytu, yen, yow, ytk, ymk, ybu, yla, ywo, yho, ywa⟩ := v
  obtain ⟨t, a, cs, rfl, rfl, ht, rfl, ha, rfl, rfl, hR, rfl, rfl, hQX, hQY, hQC⟩ := I
  obtain ⟨l, en, ow, tk, mk, hX, hG, hE, hY⟩ := hR
  unfold wpX_seen
  by_cases hb : v1 < 0 ∨ nI 4 ≤ v1
  · refine tp_xcl0 hb (br_t rfl ?_)
    unfold wpY_seen
    exact tp_ycl0 hb (br_t rfl ⟨rfl, J⟩)
  · obtain ⟨c, hc, rfl⟩ := tp_bad hb
    refine tp_xcl1 hc (br_f (by decide) ?_)
    by_cases hm : v2 < 0 ∨ 288 < v2
    · refine tp_xtm0 hm (br_t rfl ?_)
      unfold wpY_seen
      exact tp_ycl1 hc (br_f (by decide) (tp_yin0 hm (br_t rfl ⟨rfl, J⟩)))
    · obtain ⟨q, hq, rfl⟩ := tp_tm hm
      have hm1 : ¬ nI q < 0 := fun z => hm (Or.inl z)
      have hm2 : ¬ (288 : Int32) < nI q := fun z => hm (Or.inr z)
      have hso := hX.2.1.filter (fun s => tp_pS (nI c) (nI q) (tp_at xtu en ow tk mk s))
      have hlt : ∀ x, x ∈ l.filter (fun s => tp_pS (nI c) (nI q) (tp_at xtu en ow tk mk s)) → x < 20 := fun x hx => hX.1 x (List.mem_filter.mp hx).1
      have hml : (l.filter (fun s => tp_pS (nI c) (nI q) (tp_at xtu en ow tk mk s))).length ≤ 20 := tp_nodup_lt (tp_nd hso) hlt
      have hfm : (l.map (tp_at xtu en ow tk mk)).filter (tp_pS (nI c) (nI q)) = (l.filter (fun s => tp_pS (nI c) (nI q) (tp_at xtu en ow tk mk s))).map (tp_at xtu en ow tk mk) := by
        rw [List.filter_map]
        rfl
      have YG : ∀ post : Int32 → Prop, (∀ j s, (l.filter (fun s => tp_pS (nI c) (nI q) (tp_at xtu en ow tk mk s)))[j]? = some s → v3 = nI j → post (xtu s)) → ((∀ j, j < (l.filter (fun s => tp_pS (nI c) (nI q) (tp_at xtu en ow tk mk s))).length → ¬ v3 = nI j) → post (-4)) →
          wpY_seen post ((nI t), yN, (nI cs.length), ytu, yen, yow, ytk, ymk, xit, xgi, ywo, yho, ywa) (nI c) (nI q) v3 := by
        intro post g1 g0
        unfold wpY_seen
        refine tp_ycl1 hc (br_f (by decide) (tp_yin1 hm1 hm2 (br_f (by decide) (Exists.intro _ (tp_ysnL hY _ 0 (Nat.zero_add _) 0 _ (Nat.lt_succ_self _) (fun j e hj hv => ?_) (fun hj => g0 ?_))))))
        · rw [List.drop_zero, hfm, List.getElem?_map] at hj
          rw [Nat.zero_add] at hv
          obtain ⟨s, hs, rfl⟩ := Option.map_eq_some_iff.mp hj
          exact g1 j s hs hv
        · rw [List.drop_zero, hfm, List.length_map] at hj
          intro j hjl
          have w := hj j hjl
          rwa [Nat.zero_add] at w
      refine tp_xtm1 hq (br_f (by decide) ?_)
      refine tp_xset (en := en) hX hG hc hq fun S hS => ?_
      by_cases h0 : v3 < 0
      · refine br_t h0 (YG _ (fun j s hs hv => ?_) (fun _ => ⟨rfl, J⟩))
        have w := (List.getElem?_eq_some_iff.mp hs).1
        rw [hv] at h0
        exact absurd h0 (nI_pos (by omega))
      · obtain ⟨kk, hkk, rfl⟩ := nI_of h0
        refine br_f h0 (tp_onesIn (tp_nd hso) (fun s hs => Nat.lt_trans (hlt s hs) (by decide)) hS ?_)
        by_cases h1 : kk < (l.filter (fun s => tp_pS (nI c) (nI q) (tp_at xtu en ow tk mk s))).length
        · refine br_t (nI_lt h1 (by omega)) ?_
          obtain ⟨s0, hs0⟩ : ∃ s, (l.filter (fun s => tp_pS (nI c) (nI q) (tp_at xtu en ow tk mk s)))[kk]? = some s := ⟨_, List.getElem?_eq_getElem h1⟩
          cases hf : l.filter (fun s => tp_pS (nI c) (nI q) (tp_at xtu en ow tk mk s)) with
          | nil =>
            rw [hf] at h1
            exact absurd h1 (by simp)
          | cons s m =>
            have hS1 := hS
            have hso1 := hso
            have hlt1 := hlt
            rw [hf] at hS1 hso1 hlt1
            refine tp_oldest hso1 hlt1 hS1 (Exists.intro (kk + 1) (tp_xseL hso hlt h1 (by omega) (fun s' hs' => ?_) kk 0 (Nat.zero_add _) S s m (by rw [List.drop_zero]; exact hf) hS1 _ (Nat.lt_succ_self _)))
            refine YG _ (fun j s2 hs2 hv => ⟨?_, J⟩) (fun z => absurd rfl (z kk h1))
            have w := (List.getElem?_eq_some_iff.mp hs2).1
            have e := (nI_eq (by omega) (by omega)).mp hv
            subst e
            rw [hs'] at hs2
            cases hs2
            rfl
        · refine br_f (nI_nlt (by omega) (by omega)) (YG _ (fun j s hs hv => ?_) (fun _ => ⟨rfl, J⟩))
          have w := (List.getElem?_eq_some_iff.mp hs).1
          have e := (nI_eq (by omega) (by omega)).mp hv
          omega
end
section
/-! next -/
def tp_ED (l : List Nat) (t : Nat) (xen en : Nat → Int32) (ed : Nat → Nat) : Prop := ∀ s, s ∈ l → xen s = nI (ed s) ∧ ed s ≤ t + 100 ∧ ((ed s = 0 ∧ en s = -1) ∨ (t < ed s ∧ en s = nI (ed s)))
theorem tp_EN_ED {l : List Nat} {t : Nat} {xen en : Nat → Int32} (ht : t + 100 < 2 ^ 31) (h : tp_EN l t xen en) : tp_ED l t xen en (fun s => (xen s).toNatClampNeg) := by
  intro s hs
  rcases h s hs with ⟨h1, h2⟩ | ⟨e, h1, h2, h3, h4⟩
  · have w : (xen s).toNatClampNeg = 0 := by rw [h1]; decide
    refine ⟨?_, ?_, Or.inl ⟨w, h2⟩⟩
    · show xen s = nI (xen s).toNatClampNeg
      rw [w, h1]
      rfl
    · show (xen s).toNatClampNeg ≤ _
      rw [w]
      omega
  · have w : (xen s).toNatClampNeg = e := by rw [h3]; exact nI_clamp (by omega)
    refine ⟨?_, ?_, Or.inr ⟨?_, ?_⟩⟩
    · show xen s = nI (xen s).toNatClampNeg
      rw [w]
      exact h3
    · show (xen s).toNatClampNeg ≤ _
      rw [w]
      exact h2
    · show _ < (xen s).toNatClampNeg
      rw [w]
      exact h1
    · show en s = nI (xen s).toNatClampNeg
      rw [w]
      exact h4
section
variable {xU : Int32} {xA : Int64} {xT : Int32} {xW : Int32} {xV : Int32} {xtu : Nat → Int32} {xen : Nat → Int32} {xag : Nat → Int64} {xfi : Nat → Int32} {xse : Nat → Int32} {xit : Nat → Int32} {xpt : Nat → Int32} {xtb : Nat → Int32} {xmb : Nat → Int32} {xgi : Nat → Int32} {xqu : Nat → Int32} {xwh : Nat → Int32} {xwt : Nat → Int32}
theorem tp_xnL {post : Int32 → Prop} {l : List Nat} {en : Nat → Int32} {ed : Nat → Nat} {t : Nat} (ht : t + 100 < 2 ^ 31) (hT : xT = nI t) (hl : ∀ s, s ∈ l → s < 20) (hU : tp_SL l xU) (hD : tp_ED l t xen en ed)
    (h0 : (∀ s, s ∈ l → ed s = 0) → post (-4)) (h1 : ∀ b, b ≠ 0 → (∃ s, s ∈ l ∧ ed s = b) → (∀ s, s ∈ l → ed s ≠ 0 → b ≤ ed s) → post (nI b - nI t)) :
    ∀ (d j : Nat), j + d = 20 → ∀ (b n : Nat), d < n → ((b = 0 ∧ ∀ s, s ∈ l → s < j → ed s = 0) ∨ (b ≠ 0 ∧ (∃ s, s ∈ l ∧ ed s = b) ∧ ∀ s, s ∈ l → s < j → ed s ≠ 0 → b ≤ ed s)) → wX_next_4 post xU xA xT xW xV xtu xen xag xfi xse xit xpt xtb xmb xgi xqu xwh xwt n (nI b) (nI j) := by
  intro d
  induction d with
  | zero =>
    intro j hj b n hn hB
    obtain ⟨n, rfl⟩ : ∃ q, n = q + 1 := ⟨n - 1, by omega⟩
    refine br_t (nI_le (a := 20) (by omega) (by omega)) ?_
    rcases hB with ⟨rfl, hB⟩ | ⟨hb, hB, hC⟩
    · exact br_t rfl (h0 fun s hs => hB s hs (by have := hl s hs; omega))
    · obtain ⟨s, hs, rfl⟩ := hB
      have := (hD s hs).2.1
      refine br_f (nI_ne0 (by omega) (by omega)) ?_
      rw [hT]
      exact h1 _ hb ⟨s, hs, rfl⟩ fun x hx => hC x hx (by have := hl x hx; omega)
  | succ d ih =>
    intro j hj b n hn hB
    obtain ⟨n, rfl⟩ : ∃ q, n = q + 1 := ⟨n - 1, by omega⟩
    have h20 : ¬ (20 : Int32) ≤ nI j := nI_ge (b := 20) (by omega) (by decide)
    have e : (nI j).toNatClampNeg = j := nI_clamp (by omega)
    have hin : vp_in (nI j) 20 := vp_in_nI (by omega) (by decide)
    have hbl : b ≤ t + 100 := by
      rcases hB with ⟨hb, _⟩ | ⟨_, ⟨s, hs, hb⟩, _⟩
      · omega
      · have := (hD s hs).2.1
        omega
    refine br_f h20 ?_
    cases hb : bt xU j
    · have hj' : ¬ j ∈ l := (tp_bf (hU j (by omega))).mp hb
      refine br_t ((tp_bit _ (by omega)).mpr hb) (nm_r (nI_1 j) (ih (j + 1) (by omega) b n (by omega) ?_))
      have hne : ∀ x, x ∈ l → x ≠ j := fun x hx z => hj' (z ▸ hx)
      rcases hB with ⟨hb0, hB⟩ | ⟨hb0, hB, hC⟩
      · exact Or.inl ⟨hb0, fun x hx hxj => hB x hx (by have := hne x hx; omega)⟩
      · exact Or.inr ⟨hb0, hB, fun x hx hxj => hC x hx (by have := hne x hx; omega)⟩
    · have hj' : j ∈ l := (hU j (by omega)).mp hb
      obtain ⟨d1, d2, d3⟩ := hD j hj'
      refine br_f ((tp_bitT _ (by omega)).mpr hb) (And.intro hin ?_)
      rw [e, d1]
      by_cases hz : ed j = 0
      · refine br_t (by rw [hz]; rfl) (nm_r (nI_1 j) (ih (j + 1) (by omega) b n (by omega) ?_))
        rcases hB with ⟨hb0, hB⟩ | ⟨hb0, hB, hC⟩
        · refine Or.inl ⟨hb0, fun x hx hxj => ?_⟩
          by_cases y : x = j
          · rw [y]
            exact hz
          · exact hB x hx (by omega)
        · refine Or.inr ⟨hb0, hB, fun x hx hxj hx0 => ?_⟩
          by_cases y : x = j
          · rw [y] at hx0
            exact absurd hz hx0
          · exact hC x hx (by omega) hx0
      · refine br_f (nI_ne0 (by omega) (by omega)) ?_
        rcases hB with ⟨rfl, hB⟩ | ⟨hb0, hB, hC⟩
        · refine br_t rfl (And.intro hin (nm_e (nm_r (nI_1 j) (ih (j + 1) (by omega) (ed j) n (by omega) (Or.inr ⟨hz, ⟨j, hj', rfl⟩, fun x hx hxj hx0 => ?_⟩)))))
          by_cases y : x = j
          · rw [y]
            exact Nat.le_refl _
          · exact absurd (hB x hx (by omega)) hx0
        · refine br_f (nI_ne0 (by omega) (by omega)) (And.intro hin ?_)
          by_cases hc : b ≤ ed j
          · refine br_t (nI_le hc (by omega)) (nm_r (nI_1 j) (ih (j + 1) (by omega) b n (by omega) (Or.inr ⟨hb0, hB, fun x hx hxj hx0 => ?_⟩)))
            by_cases y : x = j
            · rw [y]
              exact hc
            · exact hC x hx (by omega) hx0
          · refine br_f (nI_ge (by omega) (by omega)) (And.intro hin (nm_e (nm_r (nI_1 j) (ih (j + 1) (by omega) (ed j) n (by omega) (Or.inr ⟨hz, ⟨j, hj', rfl⟩, fun x hx hxj hx0 => ?_⟩)))))
            by_cases y : x = j
            · rw [y]
              exact Nat.le_refl _
            · have := hC x hx (by omega) hx0
              omega
end
section
variable {yT : Int32} {yN : Int32} {yQ : Int32} {ytu : Nat → Int32} {yen : Nat → Int32} {yow : Nat → Int32} {ytk : Nat → Int32} {ymk : Nat → Int32} {ybu : Nat → Int32} {yla : Nat → Int32} {ywo : Nat → Int32} {yho : Nat → Int32} {ywa : Nat → Int32}
theorem tp_ynL {post : Int32 → Prop} {l : List Nat} {xtu xen en ow tk mk : Nat → Int32} {ed : Nat → Nat} {t : Nat} (ht : t + 100 < 2 ^ 31) (hT : yT = nI t) (hD : tp_ED l t xen en ed) (hY : tp_YE (l.map (tp_at xtu en ow tk mk)) yN ytu yen yow ytk ymk)
    (h0 : (∀ s, s ∈ l → ed s = 0) → post (-4)) (h1 : ∀ b, b ≠ 0 → (∃ s, s ∈ l ∧ ed s = b) → (∀ s, s ∈ l → ed s ≠ 0 → b ≤ ed s) → post (nI b - nI t)) :
    ∀ (d i : Nat), i + d = l.length → ∀ (L : Int32) (n : Nat), d < n → ((L = -4 ∧ ∀ j s, l[j]? = some s → j < i → ed s = 0) ∨ (∃ b : Nat, t < b ∧ b ≤ t + 100 ∧ L = nI (b - t) ∧ (∃ s, s ∈ l ∧ ed s = b) ∧ ∀ j s, l[j]? = some s → j < i → ed s ≠ 0 → b ≤ ed s)) → wY_next_5 post yT yN yQ ytu yen yow ytk ymk ybu yla ywo yho ywa n L (nI i) := by
  obtain ⟨hN, h20, hA⟩ := hY
  rw [List.length_map] at hN h20
  intro d
  induction d with
  | zero =>
    intro i hi L n hn hL
    obtain ⟨n, rfl⟩ : ∃ q, n = q + 1 := ⟨n - 1, by omega⟩
    have hall : ∀ s, s ∈ l → ∃ j, j < i ∧ l[j]? = some s := by
      intro s hs
      obtain ⟨j, hj⟩ := List.getElem?_of_mem hs
      exact ⟨j, by have := (List.getElem?_eq_some_iff.mp hj).1; omega, hj⟩
    refine br_t (by rw [hN]; exact nI_le (by omega) (by omega)) ?_
    rcases hL with ⟨rfl, hL⟩ | ⟨b, hb1, hb2, rfl, hs, hL⟩
    · refine h0 fun s hs => ?_
      obtain ⟨j, hj, hjs⟩ := hall s hs
      exact hL j s hjs hj
    · rw [← pk_sub (by omega)]
      refine h1 b (by omega) hs fun s hs => ?_
      obtain ⟨j, hj, hjs⟩ := hall s hs
      exact hL j s hjs hj
  | succ d ih =>
    intro i hi L n hn hL
    obtain ⟨n, rfl⟩ : ∃ q, n = q + 1 := ⟨n - 1, by omega⟩
    obtain ⟨s, hs⟩ : ∃ s, l[i]? = some s := ⟨_, List.getElem?_eq_getElem (by omega)⟩
    have hsl := List.mem_of_getElem? hs
    obtain ⟨d1, d2, d3⟩ := hD s hsl
    have hen : yen i = en s := (tp_at_o (hA i _ (by rw [List.getElem?_map, hs]; rfl))).2.1
    have e : (nI i).toNatClampNeg = i := nI_clamp (by omega)
    have hin : vp_in (nI i) 20 := vp_in_nI (by omega) (by decide)
    have hst : ∀ j x, l[j]? = some x → j = i → x = s := by
      intro j x hj z
      rw [z, hs] at hj
      exact (Option.some.inj hj).symm
    refine br_f (by rw [hN]; exact nI_ge (by omega) (by omega)) (And.intro hin ?_)
    rw [e, hen]
    rcases d3 with ⟨d3, d4⟩ | ⟨d3, d4⟩
    · rw [d4]
      refine br_t tp_m1lt (nm_r (nI_1 i) (ih (i + 1) (by omega) L n (by omega) ?_))
      rcases hL with ⟨hL0, hL⟩ | ⟨b, hb1, hb2, hL0, hs', hL⟩
      · refine Or.inl ⟨hL0, fun j x hj hji => ?_⟩
        by_cases y : j = i
        · rw [hst j x hj y]
          exact d3
        · exact hL j x hj (by omega)
      · refine Or.inr ⟨b, hb1, hb2, hL0, hs', fun j x hj hji hx0 => ?_⟩
        by_cases y : j = i
        · rw [hst j x hj y] at hx0
          exact absurd d3 hx0
        · exact hL j x hj (by omega) hx0
    · rw [d4]
      have ek : nI (ed s) - yT = nI (ed s - t) := by rw [hT, pk_sub (by omega)]
      have K43 : (∀ j x, l[j]? = some x → j < i + 1 → ed x ≠ 0 → ed s ≤ ed x) → wY_next_43 post (wY_next_5 post yT yN yQ ytu yen yow ytk ymk ybu yla ywo yho ywa n) (nI i) yT yN yQ ytu yen yow ytk ymk ybu yla ywo yho ywa := by
        intro hL'
        refine And.intro hin (nm_r (e' := nI (ed s - t)) (by rw [e, hen, d4, ek]) (nm_r (nI_1 i) (ih (i + 1) (by omega) _ n (by omega) (Or.inr ⟨ed s, d3, d2, rfl, ⟨s, hsl, rfl⟩, hL'⟩))))
      refine br_f (nI_pos (by omega)) ?_
      rcases hL with ⟨rfl, hL⟩ | ⟨b, hb1, hb2, rfl, hs', hL⟩
      · refine br_t rfl (K43 fun j x hj hji hx0 => ?_)
        by_cases y : j = i
        · rw [hst j x hj y]
          exact Nat.le_refl _
        · exact absurd (hL j x hj (by omega)) hx0
      · have hne : ¬ nI (b - t) = -4 := by
          intro z
          have w : ¬ nI (b - t) < 0 := nI_pos (by omega)
          rw [z] at w
          exact w (by decide)
        refine br_f hne (And.intro hin ?_)
        rw [ek]
        by_cases hc : b ≤ ed s
        · refine br_t (nI_le (by omega) (by omega)) (nm_r (nI_1 i) (ih (i + 1) (by omega) _ n (by omega) (Or.inr ⟨b, hb1, hb2, rfl, hs', fun j x hj hji hx0 => ?_⟩)))
          by_cases y : j = i
          · rw [hst j x hj y]
            exact hc
          · exact hL j x hj (by omega) hx0
        · refine br_f (nI_ge (by omega) (by omega)) (K43 fun j x hj hji hx0 => ?_)
          by_cases y : j = i
          · rw [hst j x hj y]
            exact Nat.le_refl _
          · have := hL j x hj (by omega) hx0
            omega
end
theorem i_vc_next {k : Nat} {u : SX} {v : SY} (I : i_Rel k u v) (hk : k + 4 ≤ 2048) : wpX_next (fun r => wpY_next (fun r' => r' = r ∧ i_Rel (k + 4) u v) v) u := by
  have J := i_up I
  obtain ⟨xU, xA, xT, xW, xV, xtu, xen, xag, xfi, xse, xit, xpt, xtb, xmb, xgi, xqu, xwh, xwt⟩ := u
  obtain ⟨yT, yN, yQ, ytu, yen, yow, ytk, ymk, ybu, yla, ywo, yho, ywa⟩ := v
  obtain ⟨t, a, cs, rfl, rfl, ht, rfl, ha, rfl, rfl, hR, rfl, rfl, hQX, hQY, hQC⟩ := I
  obtain ⟨l, en, ow, tk, mk, hX, hG, hE, hY⟩ := hR
  have hD := tp_EN_ED (by omega) hE
  unfold wpX_next wpY_next
  refine Exists.intro 21 (tp_xnL (by omega) rfl hX.1 hX.2.2.2.1 hD (fun g => ?_) (fun b hb hbs hbm => ?_) 20 0 rfl 0 21 (by omega) (Or.inl ⟨rfl, fun s _ hs => absurd hs (by omega)⟩))
  · refine Exists.intro _ (tp_ynL (by omega) rfl hD hY (fun _ => ⟨rfl, J⟩) (fun b' hb' hbs' hbm' => ?_) l.length 0 (Nat.zero_add _) (-4) _ (Nat.lt_succ_self _) (Or.inl ⟨rfl, fun j s _ hj => absurd hj (by omega)⟩))
    obtain ⟨s, hs, hsb⟩ := hbs'
    have := g s hs
    omega
  · refine Exists.intro _ (tp_ynL (by omega) rfl hD hY (fun g => ?_) (fun b' hb' hbs' hbm' => ?_) l.length 0 (Nat.zero_add _) (-4) _ (Nat.lt_succ_self _) (Or.inl ⟨rfl, fun j s _ hj => absurd hj (by omega)⟩))
    · obtain ⟨s, hs, hsb⟩ := hbs
      have := g s hs
      omega
    · obtain ⟨s, hs, hsb⟩ := hbs
      obtain ⟨s', hs', hsb'⟩ := hbs'
      have w1 := hbm s' hs' (by omega)
      have w2 := hbm' s hs (by omega)
      have w3 : b' = b := by omega
      subst w3
      exact ⟨rfl, J⟩
end
section
/-! ask, cancel -/
section
variable {cs : List Nat} {c h q : Nat} {xqu xwh xwt ywo yho ywa : Nat → Int32}
theorem tp_QX_add (hQ : tp_QX cs xqu) : tp_QX (cs ++ [c]) (upd xqu cs.length (nI c)) := by
  intro i c' hi
  by_cases z : i = cs.length
  · subst z
    rw [pk_us]
    rw [List.getElem?_append_right (Nat.le_refl _), Nat.sub_self] at hi
    exact congrArg nI (Option.some.inj hi)
  · rw [pk_un z]
    have hl := (List.getElem?_eq_some_iff.mp hi).1
    rw [List.length_append, List.length_singleton] at hl
    rw [List.getElem?_append_left (by omega)] at hi
    exact hQ i c' hi
theorem tp_QY_add (hc : ¬ c ∈ cs) (hQ : tp_QY cs xwh xwt ywo yho ywa) : tp_QY (cs ++ [c]) (upd xwh c (nI h)) (upd xwt c (nI q)) (upd ywo cs.length (nI c)) (upd yho cs.length (nI h)) (upd ywa cs.length (nI q)) := by
  intro i c' hi
  by_cases z : i = cs.length
  · subst z
    rw [List.getElem?_append_right (Nat.le_refl _), Nat.sub_self] at hi
    have e : c = c' := Option.some.inj hi
    subst e
    rw [pk_us, pk_us, pk_us, pk_us, pk_us]
    exact ⟨rfl, rfl, rfl⟩
  · have hl := (List.getElem?_eq_some_iff.mp hi).1
    rw [List.length_append, List.length_singleton] at hl
    rw [List.getElem?_append_left (by omega)] at hi
    have hne : c' ≠ c := fun w => hc (w ▸ List.mem_of_getElem? hi)
    rw [pk_un z, pk_un z, pk_un z, pk_un hne, pk_un hne]
    exact hQ i c' hi
theorem tp_QC_add (h4 : c < 4) (hc : ¬ c ∈ cs) (hh : h < 2) (hq : q ≤ 288) (hQ : tp_QC cs xwh xwt) : tp_QC (cs ++ [c]) (upd xwh c (nI h)) (upd xwt c (nI q)) := by
  obtain ⟨nd, h1, h2⟩ := hQ
  refine ⟨?_, fun x hx => ?_, fun x hx hn => ?_⟩
  · rw [List.nodup_append]
    refine ⟨nd, by simp, fun a ha b hb => ?_⟩
    rw [List.mem_singleton] at hb
    rw [hb]
    exact fun z => hc (z ▸ ha)
  · by_cases z : x = c
    · subst z
      rw [pk_us, pk_us]
      refine ⟨h4, ?_, q, hq, rfl⟩
      have : h = 0 ∨ h = 1 := by omega
      rcases this with w | w
      · exact Or.inl (by rw [w]; rfl)
      · exact Or.inr (by rw [w]; rfl)
    · rw [pk_un z, pk_un z]
      rw [List.mem_append, List.mem_singleton] at hx
      exact h1 x (hx.resolve_right z)
  · rw [List.mem_append, List.mem_singleton] at hn
    have z : x ≠ c := fun w => hn (Or.inr w)
    rw [pk_un z]
    exact h2 x hx fun w => hn (Or.inl w)
theorem tp_room (h4 : c < 4) (hc : ¬ c ∈ cs) (hQ : tp_QC cs xwh xwt) : cs.length < 4 := by
  have w := tp_nodup_lt (l := c :: cs) (n := 4) (List.nodup_cons.mpr ⟨hc, hQ.1⟩) fun s hs => by
    rcases List.mem_cons.mp hs with z | z
    · omega
    · exact (hQ.2.1 s z).1
  rw [List.length_cons] at w
  omega
end
section
variable {yT : Int32} {yN : Int32} {yQ : Int32} {ytu : Nat → Int32} {yen : Nat → Int32} {yow : Nat → Int32} {ytk : Nat → Int32} {ymk : Nat → Int32} {ybu : Nat → Int32} {yla : Nat → Int32} {ywo : Nat → Int32} {yho : Nat → Int32} {ywa : Nat → Int32}
theorem tp_yask0 {post : Int32 → SY → Prop} {v1 v2 v3 : Int32} (h : (v1 < 0 ∨ nI 4 ≤ v1) ∨ (v2 < 0 ∨ 3 < v2) ∨ (v3 < 0 ∨ 288 < v3)) (hp : post (-1) (yT, yN, yQ, ytu, yen, yow, ytk, ymk, ybu, yla, ywo, yho, ywa)) : wpY_ask post (yT, yN, yQ, ytu, yen, yow, ytk, ymk, ybu, yla, ywo, yho, ywa) v1 v2 v3 := by
  unfold wpY_ask
  by_cases hb : v1 < 0 ∨ nI 4 ≤ v1
  · exact tp_ycl0 hb (br_t rfl hp)
  · obtain ⟨c, hc, rfl⟩ := tp_bad hb
    refine tp_ycl1 hc (br_f (by decide) ?_)
    have h := h.resolve_left hb
    by_cases h2 : v2 < 0 ∨ 3 < v2
    · exact tp_yin0 h2 (br_t rfl hp)
    · exact tp_yin1 (fun z => h2 (Or.inl z)) (fun z => h2 (Or.inr z)) (br_f (by decide) (tp_yin0 (h.resolve_left h2) (br_t rfl hp)))
theorem tp_yask1 {post : Int32 → SY → Prop} {cs : List Nat} {c : Nat} {v2 v3 : Int32} {xwh xwt : Nat → Int32} (hQ : yQ = nI cs.length) (hQY : tp_QY cs xwh xwt ywo yho ywa) (hQC : tp_QC cs xwh xwt) (hc : c < 4) (h2 : ¬ v2 < 0) (h2' : ¬ 3 < v2) (h3 : ¬ v3 < 0) (h3' : ¬ 288 < v3)
    (hi : c ∈ cs → post (-3) (yT, yN, yQ, ytu, yen, yow, ytk, ymk, ybu, yla, ywo, yho, ywa)) (ho : ¬ c ∈ cs → ((((v2 - v2 / 2 * 2) = 1 → (wY_ask_57 post (nI c) v2 v3 1 (nI c) yT yN yQ ytu yen yow ytk ymk ybu yla ywo yho ywa)) ∧ (¬ (v2 - v2 / 2 * 2) = 1 → (wY_ask_57 post (nI c) v2 v3 0 (nI c) yT yN yQ ytu yen yow ytk ymk ybu yla ywo yho ywa))))) : wpY_ask post (yT, yN, yQ, ytu, yen, yow, ytk, ymk, ybu, yla, ywo, yho, ywa) (nI c) v2 v3 := by
  unfold wpY_ask
  refine tp_ycl1 hc (br_f (by decide) (tp_yin1 h2 h2' (br_f (by decide) (tp_yin1 h3 h3' (br_f (by decide) (tp_yq1 hQ hQY hQC hc (fun i hi' => ?_) (fun z => ?_)))))))
  · have hl := (List.getElem?_eq_some_iff.mp hi').1
    have := tp_cs4 hQC
    exact br_f (nI_pos (by omega)) (hi (List.mem_of_getElem? hi'))
  · exact br_t tp_m1lt (And.intro (by decide) (ho z))
end
theorem i_vc_ask {k : Nat} {u : SX} {v : SY} (I : i_Rel k u v) (hk : k + 4 ≤ 2048) (v1 : Int32) (v2 : Int32) (v3 : Int32) : wpX_ask (fun r u' => wpY_ask (fun r' v' => r' = r ∧ i_Rel (k + 4) u' v') v v1 v2 v3) u v1 v2 v3 := by
  have J := i_up I
  obtain ⟨xU, xA, xT, xW, xV, xtu, xen, xag, xfi, xse, xit, xpt, xtb, xmb, xgi, xqu, xwh, xwt⟩ := u
  obtain ⟨yT, yN, yQ, ytu, yen, yow, ytk, ymk, ybu, yla, ywo, yho, ywa⟩ := v
  obtain ⟨t, a, cs, rfl, rfl, ht, rfl, ha, rfl, rfl, hR, rfl, rfl, hQX, hQY, hQC⟩ := I
  unfold wpX_ask
  by_cases hb : v1 < 0 ∨ nI 4 ≤ v1
  · exact tp_xcl0 hb (br_t rfl (tp_yask0 (Or.inl hb) ⟨rfl, J⟩))
  obtain ⟨c, hc, rfl⟩ := tp_bad hb
  refine tp_xcl1 hc (br_f (by decide) ?_)
  by_cases h2 : v2 < 0
  · exact br_t h2 (tp_yask0 (Or.inr (Or.inl (Or.inl h2))) ⟨rfl, J⟩)
  refine br_f h2 ?_
  by_cases h2' : 3 < v2
  · exact br_t h2' (tp_yask0 (Or.inr (Or.inl (Or.inr h2'))) ⟨rfl, J⟩)
  refine br_f h2' ?_
  by_cases hm : v3 < 0 ∨ 288 < v3
  · exact tp_xtm0 hm (br_t rfl (tp_yask0 (Or.inr (Or.inr hm)) ⟨rfl, J⟩))
  obtain ⟨q, hq, rfl⟩ := tp_tm hm
  have h3 : ¬ nI q < 0 := fun z => hm (Or.inl z)
  have h3' : ¬ (288 : Int32) < nI q := fun z => hm (Or.inr z)
  refine tp_xtm1 hq (br_f (by decide) ?_)
  by_cases hcs : c ∈ cs
  · refine tp_xwt1 hQC hcs (br_f (by decide) ?_)
    exact tp_yask1 rfl hQY hQC hc h2 h2' h3 h3' (fun _ => ⟨rfl, J⟩) (fun z => absurd hcs z)
  refine tp_xwt0 hQC hc hcs (br_t rfl ?_)
  obtain ⟨h, hh, rfl⟩ := nI_of2 (M := 3) (n := 3) (by decide) h2 (Int32.not_lt.mp h2')
  have e1 : nI h &&& 1 = nI (h % 2) := pk_andN (by omega) 1 (by decide)
  have e2 : nI h - nI h / 2 * 2 = nI (h % 2) := pk_rem (d := 2) (by omega) (by decide) (by decide)
  have hinc : vp_in (nI c) 4 := vp_in_nI hc (by decide)
  have ec : (nI c).toNatClampNeg = c := nI_clamp (by omega)
  obtain ⟨r, xU1, xfi1, xse1, xpt1, xtb1, xmb1, xgi1, yN1, ytu1, yen1, yow1, ytk1, ymk1, hR1, hr, hGX, hGY⟩ := tp_give (xT := nI t) (xW := nI cs.length) (xV := xV) (xit := xit) (xgi := xgi) (xqu := xqu) (xwh := xwh) (xwt := xwt) (yT := nI t) (yQ := nI cs.length) (ywo := ywo) (yho := yho) (ywa := ywa) (nI (h % 2)) hR hc hq
  have YG : ∀ post : Int32 → SY → Prop, wY_ask_57 post (nI c) (nI h) (nI q) (nI (h % 2)) (nI c) (nI t) yN (nI cs.length) ytu yen yow ytk ymk xit xgi ywo yho ywa → wpY_ask post ((nI t), yN, (nI cs.length), ytu, yen, yow, ytk, ymk, xit, xgi, ywo, yho, ywa) (nI c) (nI h) (nI q) := by
    intro post hp
    refine tp_yask1 rfl hQY hQC hc h2 h2' h3 h3' (fun z => absurd z hcs) (fun _ => ?_)
    rw [e2]
    by_cases w : h % 2 = 1
    · rw [w] at hp ⊢
      exact br_t rfl hp
    · have w' : h % 2 = 0 := by omega
      rw [w'] at hp ⊢
      exact br_f (by decide) hp
  rw [e1]
  refine hGX _ ?_
  rcases hr with rfl | rfl
  · refine br_t rfl ?_
    by_cases h1 : h < 2
    · have hro := tp_room hc hcs hQC
      have el : (nI cs.length).toNatClampNeg = cs.length := nI_clamp (by omega)
      have hinl : vp_in (nI cs.length) 4 := vp_in_nI hro (by decide)
      refine br_t (nI_le (b := 1) (by omega) (by decide)) (And.intro hinc (nm_r (e' := upd xwh c (nI h)) (by rw [ec, tp_i8 h (by omega), tp_nb (by omega)]) (And.intro hinc (nm_r (e' := upd xwt c (nI q)) (by rw [ec, tp_i16 q (by omega), tp_ns (by omega)]) (And.intro hinl (nm_r (e' := upd xqu cs.length (nI c)) (by rw [el, tp_i8 c (by omega), tp_nb (by omega)]) (nm_r (nI_1 _) ?_)))))))
      refine YG _ (hGY _ (br_t rfl (br_f (nI_ge (b := 2) h1 (by decide)) (And.intro hinl (nm_r (e' := upd ywo cs.length (nI c)) (by rw [el]) (And.intro hinl (nm_r (e' := upd yho cs.length (nI h)) (by rw [el]) (And.intro hinl (nm_r (e' := upd ywa cs.length (nI q)) (by rw [el]) (nm_r (nI_1 _) ⟨rfl, ?_⟩))))))))))
      exact ⟨t, a, cs ++ [c], rfl, rfl, by omega, rfl, by omega, rfl, rfl, hR1, by rw [List.length_append, List.length_singleton], by rw [List.length_append, List.length_singleton], tp_QX_add hQX, tp_QY_add hcs hQY, tp_QC_add hc hcs h1 hq hQC⟩
    · refine br_f (nI_ge (a := 1) (by omega) (by omega)) ?_
      refine YG _ (hGY _ (br_t rfl (br_t (nI_le (a := 2) (by omega) (by omega)) ⟨rfl, ?_⟩)))
      exact ⟨t, a, cs, rfl, rfl, by omega, rfl, by omega, rfl, rfl, hR1, rfl, rfl, hQX, hQY, hQC⟩
  · refine br_f (by decide) (And.intro hinc ?_)
    refine YG _ (hGY _ (br_f (by decide) (And.intro hinc ⟨rfl, ?_⟩)))
    exact ⟨t, a, cs, rfl, rfl, by omega, rfl, by omega, rfl, rfl, hR1, rfl, rfl, hQX, hQY, hQC⟩
section
variable {xU : Int32} {xA : Int64} {xT xW xV : Int32} {xtu xen : Nat → Int32} {xag : Nat → Int64} {xfi xse xit xpt xtb xmb xgi xwh xwt : Nat → Int32}
theorem tp_xcaL {w c : Nat} (hc : c < 4) (hw : w ≤ 4) (hW : xW = nI w) : ∀ (ps ks : List Nat) (k : Nat) (xqu : Nat → Int32), k + ps.length = w → ks.length ≤ k → (∀ x, x ∈ ps → x < 4) → (∀ i c, ks[i]? = some c → xqu i = nI c) → (∀ i c, ps[i]? = some c → xqu (k + i) = nI c) →
    ∃ xqu', tp_QX (ks ++ ps.filter (fun x => decide (x ≠ c))) xqu' ∧ (∀ (post : Int32 → SX → Prop) (n : Nat), ps.length < n → post 1 (xU, xA, xT, (nI (ks ++ ps.filter (fun x => decide (x ≠ c))).length), xV, xtu, xen, xag, xfi, xse, xit, xpt, xtb, xmb, xgi, xqu', xwh, xwt) → wX_cancel_29 post (nI c) xU xA xT xW xV n (nI ks.length) (nI k) xtu xen xag xfi xse xit xpt xtb xmb xgi xqu xwh xwt) := by
  intro ps
  induction ps with
  | nil =>
    intro ks k xqu hk hks h4 hq1 hq2
    rw [List.length_nil] at hk
    refine ⟨xqu, by rw [List.filter_nil, List.append_nil]; exact hq1, fun post n hn hp => ?_⟩
    obtain ⟨n, rfl⟩ : ∃ q, n = q + 1 := ⟨n - 1, by omega⟩
    rw [List.filter_nil, List.append_nil] at hp
    exact br_t (by rw [hW]; exact nI_le (by omega) (by omega)) hp
  | cons x ps ih =>
    intro ks k xqu hk hks h4 hq1 hq2
    rw [List.length_cons] at hk
    have hx4 := h4 x (by simp)
    have ek : (nI k).toNatClampNeg = k := nI_clamp (by omega)
    have es : (nI ks.length).toNatClampNeg = ks.length := nI_clamp (by omega)
    have hink : vp_in (nI k) 4 := vp_in_nI (by omega) (by decide)
    have hins : vp_in (nI ks.length) 4 := vp_in_nI (by omega) (by decide)
    have hqk : xqu k = nI x := hq2 0 x rfl
    by_cases z : x = c
    · subst z
      obtain ⟨xqu', hQ, hP⟩ := ih ks (k + 1) xqu (by omega) (by omega) (fun y hy => h4 y (by simp [hy])) hq1 (fun i c' hi => by
        rw [show k + 1 + i = k + (i + 1) by omega]
        exact hq2 (i + 1) c' hi)
      rw [List.filter_cons_of_neg (by simp)]
      refine ⟨xqu', hQ, fun post n hn hp => ?_⟩
      rw [List.length_cons] at hn
      obtain ⟨n, rfl⟩ : ∃ q, n = q + 1 := ⟨n - 1, by omega⟩
      refine br_f (by rw [hW]; exact nI_ge (by omega) (by omega)) (And.intro hink ?_)
      rw [ek, hqk]
      exact br_t rfl (nm_r (nI_1 _) (hP post n (by omega) hp))
    · obtain ⟨xqu', hQ, hP⟩ := ih (ks ++ [x]) (k + 1) (upd xqu ks.length (nI x)) (by omega) (by rw [List.length_append, List.length_singleton]; omega) (fun y hy => h4 y (by simp [hy])) (tp_QX_add hq1) (fun i c' hi => by
        rw [pk_un (by omega), show k + 1 + i = k + (i + 1) by omega]
        exact hq2 (i + 1) c' hi)
      rw [List.append_assoc, List.singleton_append] at hQ hP
      rw [List.filter_cons_of_pos (by simp [z])]
      refine ⟨xqu', hQ, fun post n hn hp => ?_⟩
      rw [List.length_cons] at hn
      obtain ⟨n, rfl⟩ : ∃ q, n = q + 1 := ⟨n - 1, by omega⟩
      have hP' := hP post n (by omega) hp
      rw [List.length_append, List.length_singleton] at hP'
      refine br_f (by rw [hW]; exact nI_ge (by omega) (by omega)) (And.intro hink ?_)
      rw [ek, hqk]
      refine br_f (fun y => z ((nI_eq (by omega) (by omega)).mp y)) (And.intro hink (And.intro hins (nm_r (e' := upd xqu ks.length (nI x)) (by rw [es, tp_nb (by omega)]) (nm_r (nI_1 _) (nm_r (nI_1 _) hP')))))
end
theorem tp_filter_mid {l1 l2 : List Nat} {c : Nat} (nd : (l1 ++ c :: l2).Nodup) : (l1 ++ c :: l2).filter (fun x => decide (x ≠ c)) = l1 ++ l2 := by
  have hn := tp_nd_mid nd
  rw [List.filter_append, List.filter_cons_of_neg (by simp), List.filter_eq_self.mpr, List.filter_eq_self.mpr]
  · intro a ha
    exact decide_eq_true fun z => hn (List.mem_append.mpr (Or.inr (z ▸ ha)))
  · intro a ha
    exact decide_eq_true fun z => hn (List.mem_append.mpr (Or.inl (z ▸ ha)))
theorem i_vc_cancel {k : Nat} {u : SX} {v : SY} (I : i_Rel k u v) (hk : k + 4 ≤ 2048) (v1 : Int32) : wpX_cancel (fun r u' => wpY_cancel (fun r' v' => r' = r ∧ i_Rel (k + 4) u' v') v v1) u v1 := by
  have J := i_up I
  obtain ⟨xU, xA, xT, xW, xV, xtu, xen, xag, xfi, xse, xit, xpt, xtb, xmb, xgi, xqu, xwh, xwt⟩ := u
  obtain ⟨yT, yN, yQ, ytu, yen, yow, ytk, ymk, ybu, yla, ywo, yho, ywa⟩ := v
  obtain ⟨t, a, cs, rfl, rfl, ht, rfl, ha, rfl, rfl, hR, rfl, rfl, hQX, hQY, hQC⟩ := I
  have h4 := tp_cs4 hQC
  unfold wpX_cancel wpY_cancel
  by_cases hb : v1 < 0 ∨ nI 4 ≤ v1
  · refine tp_xcl0 hb (br_t rfl ?_)
    refine tp_yqueued rfl h4 (fun i c hi => (hQY i c hi).1) (fun i c hi _ => ?_) (fun _ => ?_)
    · exact tp_ycl0 hb (br_t rfl ⟨rfl, J⟩)
    · exact tp_ycl0 hb (br_t rfl ⟨rfl, J⟩)
  obtain ⟨c, hc, rfl⟩ := tp_bad hb
  have ec : (nI c).toNatClampNeg = c := nI_clamp (by omega)
  refine tp_xcl1 hc (br_f (by decide) ?_)
  by_cases hcs : c ∈ cs
  · obtain ⟨l1, l2, rfl⟩ := List.append_of_mem hcs
    obtain ⟨xqu', hQX', hP⟩ := tp_xcaL (xU := xU) (xA := lN a) (xT := nI t) (xV := xV) (xtu := xtu) (xen := xen) (xag := xag) (xfi := xfi) (xse := xse) (xit := xit) (xpt := xpt) (xtb := xtb) (xmb := xmb) (xgi := xgi) (xwh := upd xwh c (-1)) (xwt := xwt) hc h4 rfl (l1 ++ c :: l2) [] 0 xqu (Nat.zero_add _) (Nat.zero_le _) (fun x hx => (hQC.2.1 x hx).1) (fun i c hi => absurd hi (by simp)) (fun i c hi => by rw [Nat.zero_add]; exact hQX i c hi)
    rw [List.nil_append, tp_filter_mid hQC.1] at hQX' hP
    refine tp_xwt1 hQC hcs (br_f (by decide) (And.intro (vp_in_nI hc (by decide)) (nm_r (e' := upd xwh c (-1)) (by rw [ec, tp_nbm]) (Exists.intro _ (hP _ _ (Nat.lt_succ_self _) ?_)))))
    refine tp_yq1 rfl hQY hQC hc (fun i hi => ?_) (fun z => absurd hcs z)
    have hi' : (l1 ++ c :: l2)[l1.length]? = some c := by simp
    have ei := tp_idx hQC.1 hi hi'
    subst ei
    have hl : (l1 ++ c :: l2).length = l1.length + l2.length + 1 := by rw [List.length_append, List.length_cons]; omega
    rw [hl] at h4
    refine tp_ycl1 hc (br_f (by decide) (br_t (nI_pos' (by omega)) (tp_ystop (m := l1.length + l2.length) (by omega) (by omega) (by rw [hl]) ⟨rfl, ?_⟩)))
    exact ⟨t, a, l1 ++ l2, rfl, rfl, by omega, rfl, by omega, rfl, rfl, hR, rfl, by rw [List.length_append], hQX', tp_QY_rm hQC.1 rfl hQY, tp_QC_rm hQC⟩
  · refine tp_xwt0 hQC hc hcs (br_t rfl ?_)
    refine tp_yq1 rfl hQY hQC hc (fun i hi => absurd (List.mem_of_getElem? hi) hcs) (fun _ => ?_)
    exact tp_ycl1 hc (br_f (by decide) (br_f (by decide) ⟨rfl, J⟩))
end
section
/-! put -/
theorem tp_SP_add1 {l : List Nat} {P Q : Nat → Prop} {A : Int32} {j : Nat} (hj : j < 32) (h : tp_SP l P A) (e : ∀ i, i ∈ l → (P i ↔ Q i)) (hq : Q j) : tp_SP (l ++ [j]) Q (A ||| ((1 : Int32) <<< (nI j &&& 31))) := by
  intro i hi
  rw [b_or, tp_one hj hi, Bool.or_eq_true, decide_eq_true_eq, h i hi, List.mem_append, List.mem_singleton]
  constructor
  · intro q
    rcases q with q | q
    · exact ⟨Or.inl q.1, (e i q.1).mp q.2⟩
    · exact ⟨Or.inr q, q ▸ hq⟩
  · intro q
    rcases q.1 with z | z
    · exact Or.inl ⟨z, (e i z).mpr q.2⟩
    · exact Or.inr z
theorem tp_SP_add0 {l : List Nat} {P Q : Nat → Prop} {A : Int32} {j : Nat} (h : tp_SP l P A) (e : ∀ i, i ∈ l → (P i ↔ Q i)) (hq : ¬ Q j) : tp_SP (l ++ [j]) Q A := by
  intro i hi
  rw [h i hi, List.mem_append, List.mem_singleton]
  constructor
  · intro q
    exact ⟨Or.inl q.1, (e i q.1).mp q.2⟩
  · intro q
    rcases q.1 with z | z
    · exact ⟨z, (e i z).mpr q.2⟩
    · exact absurd (z ▸ q.2) hq
theorem tp_o4_ne {c c' : Nat} (hc : c < 4) (hc' : c' < 4) (h : c ≠ c') : ¬ nI c = nI c' := fun z => h ((nI_eq (by omega) (by omega)).mp z)
section
variable {t j a c p : Nat} {l : List Nat} {en ow tk mk : Nat → Int32} {xU : Int32} {xtu xen : Nat → Int32} {xag : Nat → Int64} {xfi xse xpt xtb xmb : Nat → Int32} {yN : Int32} {ytu yen yow ytk ymk : Nat → Int32} {EX EY O : Int32} {xpt' : Nat → Int32}
theorem tp_RE_put (h : tp_RE t l en ow tk mk xU (lN a) xtu xen xag xfi xse xpt xtb xmb yN ytu yen yow ytk ymk) (ha : a + 1 < 2 ^ 31) (hj : j < 20) (hjl : ¬ j ∈ l) (hl : l.length < 20) (hp : p < 256)
    (hE : (EX = 0 ∧ EY = -1) ∨ ∃ e : Nat, t < e ∧ e ≤ t + 100 ∧ EX = nI e ∧ EY = nI e) (hO : (O = -1 ∧ xpt' = xpt) ∨ (∃ c : Nat, c < 4 ∧ O = nI c ∧ xpt' = upd xpt c (xpt c ||| ((1 : Int32) <<< (nI j &&& 31))))) :
    tp_RE t (l ++ [j]) (upd en j EY) (upd ow j O) (upd tk j (-1)) (upd mk j 0) (xU ||| ((1 : Int32) <<< (nI j &&& 31))) (lN (a + 1)) (upd xtu j (nI p)) (upd xen j EX) (vp_updL xag j (lN a)) (upd xfi (p / 16) (xfi (p / 16) ||| ((1 : Int32) <<< (nI j &&& 31)))) (upd xse (p % 16) (xse (p % 16) ||| ((1 : Int32) <<< (nI j &&& 31)))) xpt' xtb xmb
      (nI (l.length + 1)) (upd ytu l.length (nI p)) (upd yen l.length EY) (upd yow l.length O) (upd ytk l.length (-1)) (upd ymk l.length 0) := by
  obtain ⟨⟨h1, h2, h3, h4, h5, h6, h7, h8, h9⟩, hG, hN, hY⟩ := h
  have hne : ∀ s, s ∈ l → s ≠ j := fun s hs z => hjl (z ▸ hs)
  have hd : nI p / 16 = nI (p / 16) := pk_div (d := 16) (by omega) (by decide) (by decide)
  have hm : nI p - nI p / 16 * 16 = nI (p % 16) := pk_rem (d := 16) (by omega) (by decide) (by decide)
  have hin : ∀ s, s ∈ l ++ [j] → s ∈ l ∨ s = j := fun s hs => by rwa [List.mem_append, List.mem_singleton] at hs
  refine ⟨⟨fun s hs => ?_, ?_, fun s hs => ?_, fun i hi => ?_, fun k hk => ?_, fun k hk => ?_, fun k hk => ?_, fun k hk => ?_, fun k hk => ?_⟩, fun s hs => ?_, fun s hs => ?_, ?_⟩
  · rcases hin s hs with z | z
    · exact h1 s z
    · omega
  · rw [List.pairwise_append]
    refine ⟨?_, by simp, fun x hx y hy => ?_⟩
    · refine h2.imp_of_mem fun {x y} hx hy q => ?_
      rw [pk_uLn (hne x hx), pk_uLn (hne y hy)]
      exact q
    · rw [List.mem_singleton] at hy
      rw [hy, pk_uLs, pk_uLn (hne x hx)]
      exact h3 x hx
  · rcases hin s hs with z | z
    · rw [pk_uLn (hne s z)]
      exact Int64.lt_trans (h3 s z) ((lN_lt (by omega) (by omega)).mpr (by omega))
    · rw [z, pk_uLs]
      exact (lN_lt (by omega) (by omega)).mpr (by omega)
  · rw [b_or, tp_one (show j < 32 by omega) hi, Bool.or_eq_true, decide_eq_true_eq, h4 i hi, List.mem_append, List.mem_singleton]
  · by_cases z : k = p / 16
    · rw [z, pk_us]
      refine tp_SP_add1 (by omega) (h5 _ (z ▸ hk)) (fun i hi => by rw [pk_un (hne i hi)]) ?_
      rw [pk_us]
      exact hd
    · rw [pk_un z]
      refine tp_SP_add0 (h5 k hk) (fun i hi => by rw [pk_un (hne i hi)]) ?_
      rw [pk_us, hd]
      exact fun w => z ((nI_eq (by omega) (by omega)).mp w).symm
  · by_cases z : k = p % 16
    · rw [z, pk_us]
      refine tp_SP_add1 (by omega) (h6 _ (z ▸ hk)) (fun i hi => by rw [pk_un (hne i hi)]) ?_
      rw [pk_us]
      exact hm
    · rw [pk_un z]
      refine tp_SP_add0 (h6 k hk) (fun i hi => by rw [pk_un (hne i hi)]) ?_
      rw [pk_us, hm]
      exact fun w => z ((nI_eq (by omega) (by omega)).mp w).symm
  · rcases hO with ⟨o1, o2⟩ | ⟨c, hc, o1, o2⟩
    · rw [o2]
      refine tp_SP_add0 (h7 k hk) (fun i hi => by rw [pk_un (hne i hi)]) ?_
      rw [pk_us, o1]
      exact tp_m1ne (by omega)
    · rw [o2]
      by_cases z : k = c
      · subst z
        rw [pk_us]
        refine tp_SP_add1 (by omega) (h7 k hk) (fun i hi => by rw [pk_un (hne i hi)]) ?_
        rw [pk_us, o1]
      · rw [pk_un z]
        refine tp_SP_add0 (h7 k hk) (fun i hi => by rw [pk_un (hne i hi)]) ?_
        rw [pk_us, o1]
        exact tp_o4_ne hc hk fun w => z w.symm
  · refine tp_SP_add0 (h8 k hk) (fun i hi => by rw [pk_un (hne i hi)]) ?_
    rw [pk_us]
    exact tp_m1ne (by omega)
  · refine tp_SP_add0 (h9 k hk) (fun i hi => by rw [pk_un (hne i hi)]) ?_
    rw [pk_us, b_0]
    exact fun w => Bool.noConfusion w
  · rcases hin s hs with z | z
    · have w := hne s z
      rw [pk_un w, pk_un w, pk_un w, pk_un w]
      exact hG s z
    · subst z
      rw [pk_us, pk_us, pk_us, pk_us]
      refine ⟨⟨p, hp, rfl⟩, ?_, Or.inl rfl, fun i _ _ => b_0 i⟩
      rcases hO with ⟨o1, _⟩ | ⟨c, hc, o1, _⟩
      · exact Or.inl o1
      · exact Or.inr ⟨c, hc, o1⟩
  · rcases hin s hs with z | z
    · have w := hne s z
      rw [pk_un w, pk_un w]
      exact hN s z
    · subst z
      rw [pk_us, pk_us]
      exact hE
  · obtain ⟨y1, y2, y3⟩ := hY
    rw [List.map_append, List.map_cons, List.map_nil]
    rw [List.length_map] at y1 y2
    have hml : l.map (tp_at (upd xtu j (nI p)) (upd en j EY) (upd ow j O) (upd tk j (-1)) (upd mk j 0)) = l.map (tp_at xtu en ow tk mk) := by
      refine List.map_congr_left fun x hx => ?_
      have w := hne x hx
      unfold tp_at
      rw [pk_un w, pk_un w, pk_un w, pk_un w, pk_un w]
    rw [hml]
    refine ⟨by rw [List.length_append, List.length_map, List.length_singleton], by rw [List.length_append, List.length_map, List.length_singleton]; omega, fun i e hi => ?_⟩
    have hil := (List.getElem?_eq_some_iff.mp hi).1
    rw [List.length_append, List.length_map, List.length_singleton] at hil
    by_cases z : i = l.length
    · subst z
      rw [List.getElem?_append_right (by rw [List.length_map]; exact Nat.le_refl _), List.length_map, Nat.sub_self] at hi
      have hi' := Option.some.inj hi
      rw [← hi']
      unfold tp_at
      rw [pk_us, pk_us, pk_us, pk_us, pk_us, pk_us, pk_us, pk_us, pk_us, pk_us]
    · rw [List.getElem?_append_left (by rw [List.length_map]; omega)] at hi
      have w := y3 i e hi
      unfold tp_at at w ⊢
      rw [pk_un z, pk_un z, pk_un z, pk_un z, pk_un z]
      exact w
end
section
variable {xU : Int32} {xA : Int64} {xT : Int32} {xW : Int32} {xV : Int32} {xtu : Nat → Int32} {xen : Nat → Int32} {xag : Nat → Int64} {xfi : Nat → Int32} {xse : Nat → Int32} {xit : Nat → Int32} {xpt : Nat → Int32} {xtb : Nat → Int32} {xmb : Nat → Int32} {xgi : Nat → Int32} {xqu : Nat → Int32} {xwh : Nat → Int32} {xwt : Nat → Int32}
theorem tp_xp45 {post : Int32 → SX → Prop} {l : List Nat} {x1 x2 x3 : Int32} (hU : tp_SL l xU) (hf : (∀ s, s < 20 → s ∈ l) → wX_put_70 post x1 x2 x3 (nI 20) xU xA xT xW xV xtu xen xag xfi xse xit xpt xtb xmb xgi xqu xwh xwt) (hj : ∀ j, j < 20 → ¬ j ∈ l → wX_put_70 post x1 x2 x3 (nI j) xU xA xT xW xV xtu xen xag xfi xse xit xpt xtb xmb xgi xqu xwh xwt) :
    ∀ (d j : Nat), j + d = 20 → (∀ i, i < j → i ∈ l) → ∀ n, d < n → wX_put_45 post x1 x2 x3 xU xA xT xW xV xtu xen xag xfi xse xit xpt xtb xmb xgi xqu xwh xwt n (nI j) := by
  intro d
  induction d with
  | zero =>
    intro j hj' hi n hn
    obtain ⟨n, rfl⟩ : ∃ q, n = q + 1 := ⟨n - 1, by omega⟩
    have e : j = 20 := by omega
    subst e
    exact br_t (nI_le (a := 20) (by omega) (by omega)) (hf hi)
  | succ d ih =>
    intro j hj' hi n hn
    obtain ⟨n, rfl⟩ : ∃ q, n = q + 1 := ⟨n - 1, by omega⟩
    refine br_f (nI_ge (b := 20) (by omega) (by decide)) ?_
    cases hb : bt xU j
    · exact br_t ((tp_bit _ (by omega)).mpr hb) (hj j (by omega) ((tp_bf (hU j (by omega))).mp hb))
    · refine br_f ((tp_bitT _ (by omega)).mpr hb) (nm_r (nI_1 j) (ih (j + 1) (by omega) (fun i hi' => ?_) n (by omega)))
      by_cases z : i = j
      · rw [z]
        exact (hU j (by omega)).mp hb
      · exact hi i (by omega)
theorem tp_xp122 {post : Int32 → SX → Prop} {c p j : Nat} {E : Int32} (hc : c < 4) (hp : p < 256) (hj : j < 20)
    (k0 : xit c = 0 → wX_put_198 post xU (xA + 1) xT xW xV xtu (upd xen j E) (vp_updL xag j xA) (upd xfi (p / 16) (xfi (p / 16) ||| ((1 : Int32) <<< (nI j &&& 31)))) (upd xse (p % 16) (xse (p % 16) ||| ((1 : Int32) <<< (nI j &&& 31)))) xit xpt xtb xmb xgi xqu xwh xwt)
    (k1 : ¬ xit c = 0 → wX_put_198 post xU (xA + 1) xT xW xV xtu (upd xen j E) (vp_updL xag j xA) (upd xfi (p / 16) (xfi (p / 16) ||| ((1 : Int32) <<< (nI j &&& 31)))) (upd xse (p % 16) (xse (p % 16) ||| ((1 : Int32) <<< (nI j &&& 31)))) xit (upd xpt c (xpt c ||| ((1 : Int32) <<< (nI j &&& 31)))) xtb xmb xgi xqu xwh xwt) :
    wX_put_122 post (nI c) (nI p) (nI j) E (nI j) xU xA xT xW xV xtu xen xag xfi xse xit xpt xtb xmb xgi xqu xwh xwt := by
  have hd : nI p / 16 = nI (p / 16) := pk_div (d := 16) (by omega) (by decide) (by decide)
  have hm : nI p - nI p / 16 * 16 = nI (p % 16) := pk_rem (d := 16) (by omega) (by decide) (by decide)
  have ec : (nI c).toNatClampNeg = c := nI_clamp (by omega)
  have ej : (nI j).toNatClampNeg = j := nI_clamp (by omega)
  have ed : (nI (p / 16)).toNatClampNeg = p / 16 := nI_clamp (by omega)
  have em : (nI (p % 16)).toNatClampNeg = p % 16 := nI_clamp (by omega)
  have hinj : vp_in (nI j) 20 := vp_in_nI hj (by decide)
  have hinc : vp_in (nI c) 4 := vp_in_nI hc (by decide)
  have hind : vp_in (nI p / 16) 16 := by rw [hd]; exact vp_in_nI (by omega) (by decide)
  have hinm : vp_in (nI p - nI p / 16 * 16) 16 := by rw [hm]; exact vp_in_nI (by omega) (by decide)
  refine And.intro hinj (nm_r (e' := upd xen j E) (by rw [ej]) (And.intro hinj (nm_r (e' := vp_updL xag j xA) (by rw [ej]) (nm_e (And.intro (by decide) (And.intro hind (And.intro hind (nm_r (e' := upd xfi (p / 16) (xfi (p / 16) ||| ((1 : Int32) <<< (nI j &&& 31)))) (by rw [hd, ed]) (And.intro (by decide) (And.intro hinm (And.intro hinm (nm_r (e' := upd xse (p % 16) (xse (p % 16) ||| ((1 : Int32) <<< (nI j &&& 31)))) (by rw [hm, em]) (And.intro hinc ?_)))))))))))))
  rw [ec]
  exact ⟨fun z => k0 z, fun z => And.intro hinc (And.intro hinc (nm_e (k1 z)))⟩
theorem tp_xp70 {post : Int32 → SX → Prop} {c p j : Nat} {v3 : Int32} (hc : c < 4) (hp : p < 256) (hj : j < 20)
    (k : ∀ (E : Int32) (P : Nat → Int32), ((v3 = 0 ∧ E = 0) ∨ (¬ v3 = 0 ∧ E = xT + v3)) → ((xit c = 0 ∧ P = xpt) ∨ (¬ xit c = 0 ∧ P = upd xpt c (xpt c ||| ((1 : Int32) <<< (nI j &&& 31))))) → wX_put_198 post (xU ||| ((1 : Int32) <<< (nI j &&& 31))) (xA + 1) xT xW xV (upd xtu j (nI p)) (upd xen j E) (vp_updL xag j xA) (upd xfi (p / 16) (xfi (p / 16) ||| ((1 : Int32) <<< (nI j &&& 31)))) (upd xse (p % 16) (xse (p % 16) ||| ((1 : Int32) <<< (nI j &&& 31)))) xit P xtb xmb xgi xqu xwh xwt) :
    wX_put_70 post (nI c) (nI p) v3 (nI j) xU xA xT xW xV xtu xen xag xfi xse xit xpt xtb xmb xgi xqu xwh xwt := by
  have hn : ¬ nI j = 20 := fun z => absurd ((nI_eq (b := 20) (by omega) (by decide)).mp z) (by omega)
  have ej : (nI j).toNatClampNeg = j := nI_clamp (by omega)
  refine br_f hn (nm_e (And.intro (vp_in_nI hj (by decide)) (nm_r (e' := upd xtu j (nI p)) (by rw [ej, tp_i16 p (by omega), tp_ns (by omega)]) ?_)))
  by_cases z : v3 = 0
  · exact br_t z (tp_xp122 hc hp hj (fun w => k 0 xpt (Or.inl ⟨z, rfl⟩) (Or.inl ⟨w, rfl⟩)) (fun w => k 0 _ (Or.inl ⟨z, rfl⟩) (Or.inr ⟨w, rfl⟩)))
  · exact br_f z (tp_xp122 hc hp hj (fun w => k _ xpt (Or.inr ⟨z, rfl⟩) (Or.inl ⟨w, rfl⟩)) (fun w => k _ _ (Or.inr ⟨z, rfl⟩) (Or.inr ⟨w, rfl⟩)))
end
section
variable {yT : Int32} {yN : Int32} {yQ : Int32} {ytu : Nat → Int32} {yen : Nat → Int32} {yow : Nat → Int32} {ytk : Nat → Int32} {ymk : Nat → Int32} {ybu : Nat → Int32} {yla : Nat → Int32} {ywo : Nat → Int32} {yho : Nat → Int32} {ywa : Nat → Int32}
theorem tp_yput0 {post : Int32 → SY → Prop} {v1 v2 v3 : Int32} (h : (v1 < 0 ∨ nI 4 ≤ v1) ∨ (v2 < 0 ∨ 255 < v2) ∨ (v3 < 0 ∨ 100 < v3)) (hp : post (-1) (yT, yN, yQ, ytu, yen, yow, ytk, ymk, ybu, yla, ywo, yho, ywa)) : wpY_put post (yT, yN, yQ, ytu, yen, yow, ytk, ymk, ybu, yla, ywo, yho, ywa) v1 v2 v3 := by
  unfold wpY_put
  by_cases hb : v1 < 0 ∨ nI 4 ≤ v1
  · exact tp_ycl0 hb (br_t rfl hp)
  · obtain ⟨c, hc, rfl⟩ := tp_bad hb
    refine tp_ycl1 hc (br_f (by decide) ?_)
    have h := h.resolve_left hb
    by_cases h2 : v2 < 0 ∨ 255 < v2
    · exact tp_yin0 h2 (br_t rfl hp)
    · exact tp_yin1 (fun z => h2 (Or.inl z)) (fun z => h2 (Or.inr z)) (br_f (by decide) (tp_yin0 (h.resolve_left h2) (br_t rfl hp)))
/-- put with good arguments, n entries -/
theorem tp_yput1 {post : Int32 → SY → Prop} {cs : List Nat} {c n : Nat} {v2 v3 : Int32} {xwh xwt : Nat → Int32} (hQ : yQ = nI cs.length) (hQY : tp_QY cs xwh xwt ywo yho ywa) (hQC : tp_QC cs xwh xwt) (hc : c < 4) (h2 : ¬ v2 < 0) (h2' : ¬ 255 < v2) (h3 : ¬ v3 < 0) (h3' : ¬ 100 < v3) (hN : yN = nI n) (hn : n ≤ 20)
    (hi : c ∈ cs → post (-3) (yT, yN, yQ, ytu, yen, yow, ytk, ymk, ybu, yla, ywo, yho, ywa)) (hf : ¬ c ∈ cs → n = 20 → post (-2) (yT, yN, yQ, ytu, yen, yow, ytk, ymk, ybu, yla, ywo, yho, ywa))
    (ho : ¬ c ∈ cs → n < 20 → ∀ E O : Int32, ((v3 = 0 ∧ E = -1) ∨ (¬ v3 = 0 ∧ E = yT + v3)) → ((ybu c = 0 ∧ O = -1) ∨ (¬ ybu c = 0 ∧ O = nI c)) → wpY_serve (fun u => match u with | (yT, yN, yQ, ytu, yen, yow, ytk, ymk, ybu, yla, ywo, yho, ywa) => post (nI (n + 1)) (yT, yN, yQ, ytu, yen, yow, ytk, ymk, ybu, yla, ywo, yho, ywa)) (yT, (nI (n + 1)), yQ, (upd ytu n v2), (upd yen n E), (upd yow n O), (upd ytk n (-1)), (upd ymk n 0), ybu, yla, ywo, yho, ywa)) : wpY_put post (yT, yN, yQ, ytu, yen, yow, ytk, ymk, ybu, yla, ywo, yho, ywa) (nI c) v2 v3 := by
  unfold wpY_put
  refine tp_ycl1 hc (br_f (by decide) (tp_yin1 h2 h2' (br_f (by decide) (tp_yin1 h3 h3' (br_f (by decide) (tp_yq1 hQ hQY hQC hc (fun i hi' => ?_) (fun z => ?_)))))))
  · have hl := (List.getElem?_eq_some_iff.mp hi').1
    have := tp_cs4 hQC
    exact br_f (nI_pos (by omega)) (hi (List.mem_of_getElem? hi'))
  · refine br_t tp_m1lt ?_
    have ec : (nI c).toNatClampNeg = c := nI_clamp (by omega)
    have hinc : vp_in (nI c) 4 := vp_in_nI hc (by decide)
    have en : (nI n).toNatClampNeg = n := nI_clamp (by omega)
    subst hN
    by_cases w : n = 20
    · subst w
      exact br_t rfl (hf z rfl)
    · have hnn : ¬ nI n = 20 := fun y => w ((nI_eq (b := 20) (by omega) (by decide)).mp y)
      have hinn : vp_in (nI n) 20 := vp_in_nI (by omega) (by decide)
      have K : ∀ (E : Int32), ((v3 = 0 ∧ E = -1) ∨ (¬ v3 = 0 ∧ E = yT + v3)) → wY_put_88 post (nI c) E (nI n) yT (nI n) yQ (upd ytu n v2) yen yow ytk ymk ybu yla ywo yho ywa := by
        intro E hE
        refine And.intro hinn (nm_r (e' := upd yen n E) (by rw [en]) (And.intro hinc ?_))
        rw [ec]
        by_cases y : ybu c = 0
        · refine br_t y (And.intro hinn (nm_r (e' := upd yow n (-1)) (by rw [en]) (And.intro hinn (nm_r (e' := upd ytk n (-1)) (by rw [en]) (And.intro hinn (nm_r (e' := upd ymk n 0) (by rw [en]) (nm_r (nI_1 n) ?_)))))))
          exact ho z (by omega) E (-1) hE (Or.inl ⟨y, rfl⟩)
        · refine br_f y (And.intro hinn (nm_r (e' := upd yow n (nI c)) (by rw [en]) (And.intro hinn (nm_r (e' := upd ytk n (-1)) (by rw [en]) (And.intro hinn (nm_r (e' := upd ymk n 0) (by rw [en]) (nm_r (nI_1 n) ?_)))))))
          exact ho z (by omega) E (nI c) hE (Or.inr ⟨y, rfl⟩)
      refine br_f hnn (And.intro hinn (nm_r (e' := upd ytu n v2) (by rw [en]) ?_))
      by_cases x : v3 = 0
      · exact br_t x (K (-1) (Or.inl ⟨x, rfl⟩))
      · exact br_f x (K (yT + v3) (Or.inr ⟨x, rfl⟩))
end
end
section
theorem i_vc_put {k : Nat} {u : SX} {v : SY} (I : i_Rel k u v) (hk : k + 4 ≤ 2048) (v1 : Int32) (v2 : Int32) (v3 : Int32) : wpX_put (fun r u' => wpY_put (fun r' v' => r' = r ∧ i_Rel (k + 4) u' v') v v1 v2 v3) u v1 v2 v3 := by
  have J := i_up I
  obtain ⟨xU, xA, xT, xW, xV, xtu, xen, xag, xfi, xse, xit, xpt, xtb, xmb, xgi, xqu, xwh, xwt⟩ := u
  obtain ⟨yT, yN, yQ, ytu, yen, yow, ytk, ymk, ybu, yla, ywo, yho, ywa⟩ := v
  obtain ⟨t, a, cs, rfl, rfl, ht, rfl, ha, rfl, rfl, hR, rfl, rfl, hQX, hQY, hQC⟩ := I
  obtain ⟨l, en, ow, tk, mk, hA⟩ := hR
  have hA' := hA
  obtain ⟨hX, hG, hE, hY⟩ := hA'
  unfold wpX_put
  by_cases hb : v1 < 0 ∨ nI 4 ≤ v1
  · exact tp_xcl0 hb (br_t rfl (tp_yput0 (Or.inl hb) ⟨rfl, J⟩))
  obtain ⟨c, hc, rfl⟩ := tp_bad hb
  refine tp_xcl1 hc (br_f (by decide) ?_)
  by_cases h2 : v2 < 0
  · exact br_t h2 (tp_yput0 (Or.inr (Or.inl (Or.inl h2))) ⟨rfl, J⟩)
  refine br_f h2 ?_
  by_cases h2' : 255 < v2
  · exact br_t h2' (tp_yput0 (Or.inr (Or.inl (Or.inr h2'))) ⟨rfl, J⟩)
  refine br_f h2' ?_
  by_cases h3 : v3 < 0
  · exact br_t h3 (tp_yput0 (Or.inr (Or.inr (Or.inl h3))) ⟨rfl, J⟩)
  refine br_f h3 ?_
  by_cases h3' : 100 < v3
  · exact br_f (Int32.not_le.mpr h3') (tp_yput0 (Or.inr (Or.inr (Or.inr h3'))) ⟨rfl, J⟩)
  refine br_t (Int32.not_lt.mp h3') ?_
  have hN := hY.1
  have hn := hY.2.1
  rw [List.length_map] at hN hn
  by_cases hcs : c ∈ cs
  · refine tp_xwt1 hQC hcs (br_f (by decide) ?_)
    exact tp_yput1 rfl hQY hQC hc h2 h2' h3 h3' hN hn (fun _ => ⟨rfl, J⟩) (fun z => absurd hcs z) (fun z => absurd hcs z)
  refine tp_xwt0 hQC hc hcs (br_t rfl (Exists.intro 21 (tp_xp45 hX.2.2.2.1 (fun hf => ?_) (fun j hj hjl => ?_) 20 0 rfl (fun i hi => absurd hi (by omega)) 21 (by omega))))
  · have hful := tp_full hf
    exact br_t rfl (tp_yput1 rfl hQY hQC hc h2 h2' h3 h3' hN hn (fun z => absurd z hcs) (fun _ _ => ⟨rfl, J⟩) (fun _ z => absurd z (by omega)))
  · have hnd := tp_nd hX.2.1
    have hlt : l.length < 20 := by
      have w := tp_nodup_lt (l := j :: l) (n := 20) (List.nodup_cons.mpr ⟨hjl, hnd⟩) fun s hs => by
        rcases List.mem_cons.mp hs with z | z
        · omega
        · exact hX.1 s z
      rw [List.length_cons] at w
      omega
    obtain ⟨p, hp, rfl⟩ := nI_of2 (M := 255) (n := 255) (by decide) h2 (Int32.not_lt.mp h2')
    obtain ⟨lf, hlf, rfl⟩ := nI_of2 (M := 100) (n := 100) (by decide) h3 (Int32.not_lt.mp h3')
    refine tp_xp70 hc (by omega) hj fun EX P hEX hP => ?_
    have hEE : ∃ EY : Int32, ((nI lf = 0 ∧ EY = -1) ∨ (¬ nI lf = 0 ∧ EY = nI t + nI lf)) ∧ ((EX = 0 ∧ EY = -1) ∨ ∃ e : Nat, t < e ∧ e ≤ t + 100 ∧ EX = nI e ∧ EY = nI e) := by
      rcases hEX with ⟨z, w⟩ | ⟨z, w⟩
      · exact ⟨-1, Or.inl ⟨z, rfl⟩, Or.inl ⟨w, rfl⟩⟩
      · have hl0 : lf ≠ 0 := fun y => z (by rw [y]; rfl)
        refine ⟨nI t + nI lf, Or.inr ⟨z, rfl⟩, Or.inr ⟨t + lf, by omega, by omega, ?_, nI_add t lf⟩⟩
        rw [w, nI_add]
    have hOO : ∃ O : Int32, ((xit c = 0 ∧ O = -1) ∨ (¬ xit c = 0 ∧ O = nI c)) ∧ ((O = -1 ∧ P = xpt) ∨ (∃ c : Nat, c < 4 ∧ O = nI c ∧ P = upd xpt c (xpt c ||| ((1 : Int32) <<< (nI j &&& 31))))) := by
      rcases hP with ⟨z, w⟩ | ⟨z, w⟩
      · exact ⟨-1, Or.inl ⟨z, rfl⟩, Or.inl ⟨rfl, w⟩⟩
      · exact ⟨nI c, Or.inr ⟨z, rfl⟩, Or.inr ⟨c, hc, rfl, w⟩⟩
    obtain ⟨EY, hEY, hE2⟩ := hEE
    obtain ⟨O, hO, hO2⟩ := hOO
    have hB := tp_RE_put (p := p) hA (by omega) hj hjl hlt (by omega) hE2 hO2
    have hT : tp_top (k + 4) (xU ||| ((1 : Int32) <<< (nI j &&& 31))) (lN (a + 1)) (nI t) (nI cs.length) xV (upd xtu j (nI p)) (upd xen j EX) (vp_updL xag j (lN a)) (upd xfi (p / 16) (xfi (p / 16) ||| ((1 : Int32) <<< (nI j &&& 31)))) (upd xse (p % 16) (xse (p % 16) ||| ((1 : Int32) <<< (nI j &&& 31)))) xit P xtb xmb xgi xqu xwh xwt
        (nI t) (nI (l.length + 1)) (nI cs.length) (upd ytu l.length (nI p)) (upd yen l.length EY) (upd yow l.length O) (upd ytk l.length (-1)) (upd ymk l.length 0) xit xgi ywo yho ywa :=
      ⟨t, a + 1, cs, rfl, rfl, by omega, rfl, by omega, rfl, rfl, ⟨_, _, _, _, _, hB⟩, rfl, rfl, hQX, hQY, hQC⟩
    obtain ⟨xU', xW', xfi', xse', xpt', xtb', xmb', xgi', xqu', xwh', yN', yQ', ytu', yen', yow', ytk', ymk', yla', ywo', yho', ywa', hT', hPX, hPY⟩ := tp_serve hT
    rw [lN_1]
    have hXB := hB.1
    refine tp_onesIn (tp_nd hXB.2.1) (fun s hs => Nat.lt_trans (hXB.1 s hs) (by decide)) hXB.2.2.2.1 (hPX _ ?_)
    refine tp_yput1 rfl hQY hQC hc h2 h2' h3 h3' hN hn (fun z => absurd z hcs) (fun _ z => absurd z (by omega)) (fun _ _ E2 O2 hE3 hO3 => ?_)
    have e1 : E2 = EY := by
      rcases hEY with ⟨z, w⟩ | ⟨z, w⟩
      · rcases hE3 with ⟨z', w'⟩ | ⟨z', w'⟩
        · rw [w, w']
        · exact absurd z z'
      · rcases hE3 with ⟨z', w'⟩ | ⟨z', w'⟩
        · exact absurd z' z
        · rw [w, w']
    have e2 : O2 = O := by
      rcases hO with ⟨z, w⟩ | ⟨z, w⟩
      · rcases hO3 with ⟨z', w'⟩ | ⟨z', w'⟩
        · rw [w, w']
        · exact absurd z z'
      · rcases hO3 with ⟨z', w'⟩ | ⟨z', w'⟩
        · exact absurd z' z
        · rw [w, w']
    rw [e1, e2]
    refine hPY _ ⟨?_, hT'⟩
    rw [List.length_append, List.length_singleton]
end
section
/-! pass -/
def tp_ov (T e : Int32) : Bool := !decide (e ≤ 0) && !decide (T < e)
def tp_kp (T e : Int32) : Bool := decide (e < 0) || decide (T < e)
theorem tp_last {α : Type} {a : List α} {d : Nat} (h : a.length = d + 1) : ∃ b e, a = b ++ [e] ∧ b.length = d := by
  have hn : a ≠ [] := by
    intro z
    rw [z] at h
    simp at h
  refine ⟨a.dropLast, a.getLast hn, (List.dropLast_concat_getLast hn).symm, ?_⟩
  rw [List.length_dropLast, h]
  omega
theorem tp_dn (n : Nat) : nI n + (-1) = nI n - 1 := (Int32.sub_eq_add_neg _ _).symm
theorem tp_dnS (n : Nat) : nI (n + 1) - 1 = nI n := nI_pred n
section
variable {xU : Int32} {xA : Int64} {xT : Int32} {xW : Int32} {xV : Int32} {xtu : Nat → Int32} {xen : Nat → Int32} {xag : Nat → Int64} {xfi : Nat → Int32} {xse : Nat → Int32} {xit : Nat → Int32} {xpt : Nat → Int32} {xtb : Nat → Int32} {xmb : Nat → Int32} {xgi : Nat → Int32} {xqu : Nat → Int32} {xwh : Nat → Int32} {xwt : Nat → Int32}
theorem tp_xpaL {post : Int32 → SX → Prop} {l : List Nat} (hl : ∀ s, s ∈ l → s < 20) (hU : tp_SL l xU) (hp : ∀ (S : Int32) (n : Nat), tp_SP l (fun s => tp_ov xT (xen s) = true) S → wX_pass_26 post xU xA xT xW xV xtu xen xag xfi xse xit xpt xtb xmb xgi xqu xwh xwt (n + 1) S (nI 20)) :
    ∀ (d j : Nat), j + d = 20 → ∀ (S : Int32) (n : Nat), d < n → tp_SP l (fun s => s < j ∧ tp_ov xT (xen s) = true) S → wX_pass_26 post xU xA xT xW xV xtu xen xag xfi xse xit xpt xtb xmb xgi xqu xwh xwt n S (nI j) := by
  intro d
  induction d with
  | zero =>
    intro j hj S n hn hS
    obtain ⟨n, rfl⟩ : ∃ q, n = q + 1 := ⟨n - 1, by omega⟩
    have e : j = 20 := by omega
    subst e
    exact hp S n (tp_SP_iff hS fun i hi => ⟨fun q => q.2, fun q => ⟨hl i hi, q⟩⟩)
  | succ d ih =>
    intro j hj S n hn hS
    obtain ⟨n, rfl⟩ : ∃ q, n = q + 1 := ⟨n - 1, by omega⟩
    have e : (nI j).toNatClampNeg = j := nI_clamp (by omega)
    have hin : vp_in (nI j) 20 := vp_in_nI (by omega) (by decide)
    have K0 : (j ∈ l → tp_ov xT (xen j) = false) → wX_pass_69 post (wX_pass_26 post xU xA xT xW xV xtu xen xag xfi xse xit xpt xtb xmb xgi xqu xwh xwt n) S (nI j) xU xA xT xW xV xtu xen xag xfi xse xit xpt xtb xmb xgi xqu xwh xwt := by
      intro z
      refine br_t rfl (nm_r (nI_1 j) (ih (j + 1) (by omega) S n (by omega) (tp_SP_iff hS fun i hi => ?_)))
      constructor
      · exact fun q => ⟨by omega, q.2⟩
      · intro q
        refine ⟨?_, q.2⟩
        have hne : i ≠ j := by
          intro w
          subst w
          rw [z hi] at q
          exact Bool.noConfusion q.2
        omega
    refine br_f (nI_ge (b := 20) (by omega) (by decide)) ?_
    cases hb : bt xU j
    · exact br_t ((tp_bit _ (by omega)).mpr hb) (K0 fun w => absurd w ((tp_bf (hU j (by omega))).mp hb))
    · have hj' : j ∈ l := (hU j (by omega)).mp hb
      refine br_f ((tp_bitT _ (by omega)).mpr hb) (And.intro hin ?_)
      rw [e]
      by_cases h0 : xen j ≤ 0
      · exact br_t h0 (K0 fun _ => by simp [tp_ov, h0])
      · refine br_f h0 (And.intro hin ?_)
        by_cases h1 : xT < xen j
        · exact br_t h1 (K0 fun _ => by simp [tp_ov, h1])
        · have ho : tp_ov xT (xen j) = true := by
            unfold tp_ov
            rw [decide_eq_false h0, decide_eq_false h1]
            rfl
          refine br_f h1 (br_f (by decide) (nm_e (nm_r (nI_1 j) (ih (j + 1) (by omega) _ n (by omega) (tp_SP_iff (tp_SP_or hj' (by omega) hS) fun i hi => ?_)))))
          constructor
          · intro q
            rcases q with q | q
            · exact ⟨by omega, q.2⟩
            · subst q
              exact ⟨by omega, ho⟩
          · intro q
            by_cases w : i = j
            · exact Or.inr w
            · exact Or.inl ⟨by omega, q.2⟩
end
section
variable {yT yQ : Int32} {ybu yla ywo yho ywa : Nat → Int32}
theorem tp_ypaL {x2 : Int32} : ∀ (d : Nat) (a r : List tp_E) (yN : Int32) (ytu yen yow ytk ymk : Nat → Int32), a.length = d → tp_YE (a ++ r) yN ytu yen yow ytk ymk →
    ∃ (yN' : Int32) (ytu' yen' yow' ytk' ymk' : Nat → Int32), tp_YE (a.filter (fun e => tp_kp yT e.2.1) ++ r) yN' ytu' yen' yow' ytk' ymk' ∧
      ∀ (post : Int32 → SY → Prop) (n : Nat), d < n → (∀ n, wY_pass_35 post x2 (n + 1) (-1) yT yN' yQ ytu' yen' yow' ytk' ymk' ybu yla ywo yho ywa) → wY_pass_35 post x2 n (nI d - 1) yT yN yQ ytu yen yow ytk ymk ybu yla ywo yho ywa := by
  intro d
  induction d with
  | zero =>
    intro a r yN ytu yen yow ytk ymk hd hY
    have e : a = [] := List.eq_nil_of_length_eq_zero hd
    subst e
    refine ⟨yN, ytu, yen, yow, ytk, ymk, hY, fun post n hn hp => ?_⟩
    obtain ⟨n, rfl⟩ : ∃ q, n = q + 1 := ⟨n - 1, by omega⟩
    exact hp n
  | succ d ih =>
    intro a r yN ytu yen yow ytk ymk hd hY
    obtain ⟨b, e, rfl, hb⟩ := tp_last hd
    subst hb
    rw [List.append_assoc, List.singleton_append] at hY
    have hat := tp_YE_i hY
    have hen : yen b.length = e.2.1 := by rw [← hat]; rfl
    have h20 := hY.2.1
    have hN := hY.1
    rw [List.length_append, List.length_cons] at h20 hN
    have ei : (nI b.length).toNatClampNeg = b.length := nI_clamp (by omega)
    have hin : vp_in (nI b.length) 20 := vp_in_nI (by omega) (by decide)
    have hpos : ¬ nI b.length < 0 := nI_pos (by omega)
    rw [List.filter_append]
    by_cases hk : tp_kp yT e.2.1 = true
    · obtain ⟨yN', ytu', yen', yow', ytk', ymk', hY', hP⟩ := ih b (e :: r) yN ytu yen yow ytk ymk rfl hY
      refine ⟨yN', ytu', yen', yow', ytk', ymk', ?_, fun post n hn hp => ?_⟩
      · rw [List.filter_cons_of_pos (p := fun e : tp_E => tp_kp yT e.2.1) hk, List.filter_nil, List.append_assoc, List.singleton_append]
        exact hY'
      · obtain ⟨n, rfl⟩ : ∃ q, n = q + 1 := ⟨n - 1, by omega⟩
        have K := hP post n (by omega) hp
        rw [tp_dnS]
        refine br_f hpos (And.intro hin ?_)
        rw [ei, hen]
        by_cases h0 : e.2.1 < 0
        · exact br_t h0 (nm_r (tp_dn _) K)
        · refine br_f h0 (And.intro hin ?_)
          have h1 : yT < e.2.1 := by
            simp only [tp_kp, Bool.or_eq_true, decide_eq_true_eq] at hk
            exact hk.resolve_left h0
          exact br_t h1 (nm_r (tp_dn _) K)
    · have hY2 := tp_YE_rm (m := b.length + r.length) hY rfl
      obtain ⟨yN', ytu', yen', yow', ytk', ymk', hY', hP⟩ := ih b r _ _ _ _ _ _ rfl hY2
      refine ⟨yN', ytu', yen', yow', ytk', ymk', ?_, fun post n hn hp => ?_⟩
      · rw [List.filter_cons_of_neg (p := fun e : tp_E => tp_kp yT e.2.1) hk, List.filter_nil, List.append_nil]
        exact hY'
      · obtain ⟨n, rfl⟩ : ∃ q, n = q + 1 := ⟨n - 1, by omega⟩
        have K := hP post n (by omega) hp
        simp only [tp_kp, Bool.or_eq_true, decide_eq_true_eq] at hk
        have h0 : ¬ e.2.1 < 0 := fun z => hk (Or.inl z)
        have h1 : ¬ yT < e.2.1 := fun z => hk (Or.inr z)
        rw [tp_dnS]
        refine br_f hpos (And.intro hin ?_)
        rw [ei, hen]
        exact br_f h0 (And.intro hin (br_f h1 (tp_yremove (m := b.length + r.length) (by omega) (by omega) hN (nm_r (tp_dn _) K))))
end
theorem tp_len_filter {l : List Nat} (p : Nat → Bool) : l.length = (l.filter p).length + (l.filter (fun s => !p s)).length := by
  induction l with
  | nil => rfl
  | cons x l ih =>
    cases h : p x
    · rw [List.filter_cons_of_neg (by simp [h]), List.filter_cons_of_pos (by simp [h]), List.length_cons, List.length_cons]
      omega
    · rw [List.filter_cons_of_pos (by simp [h]), List.filter_cons_of_neg (by simp [h]), List.length_cons, List.length_cons]
      omega
theorem i_vc_pass {k : Nat} {u : SX} {v : SY} (I : i_Rel k u v) (hk : k + 4 ≤ 2048) (v1 : Int32) : wpX_pass (fun r u' => wpY_pass (fun r' v' => r' = r ∧ i_Rel (k + 4) u' v') v v1) u v1 := by
  have J := i_up I
  obtain ⟨xU, xA, xT, xW, xV, xtu, xen, xag, xfi, xse, xit, xpt, xtb, xmb, xgi, xqu, xwh, xwt⟩ := u
  obtain ⟨yT, yN, yQ, ytu, yen, yow, ytk, ymk, ybu, yla, ywo, yho, ywa⟩ := v
  obtain ⟨t, a, cs, rfl, rfl, ht, rfl, ha, rfl, rfl, hR, rfl, rfl, hQX, hQY, hQC⟩ := I
  obtain ⟨l, en, ow, tk, mk, hX, hG, hE, hY⟩ := hR
  have Y0 : v1 < 0 ∨ 50 < v1 → wpY_pass (fun r' v' => r' = -1 ∧ i_Rel (k + 4) (xU, (lN a), (nI t), (nI cs.length), xV, xtu, xen, xag, xfi, xse, xit, xpt, xtb, xmb, xgi, xqu, xwh, xwt) v') ((nI t), yN, (nI cs.length), ytu, yen, yow, ytk, ymk, xit, xgi, ywo, yho, ywa) v1 := by
    intro h
    unfold wpY_pass
    exact tp_yin0 h (br_t rfl ⟨rfl, J⟩)
  by_cases h1 : v1 < 0
  · exact br_t h1 (Y0 (Or.inl h1))
  refine br_f h1 ?_
  by_cases h2 : 50 < v1
  · exact br_f (Int32.not_le.mpr h2) (Y0 (Or.inr h2))
  obtain ⟨n, hn, rfl⟩ := nI_of2 (M := 50) (n := 50) (by decide) h1 (Int32.not_lt.mp h2)
  refine br_t (Int32.not_lt.mp h2) (nm_r (nI_add t n) (Exists.intro 21 (tp_xpaL hX.1 hX.2.2.2.1 (fun S f hS => ?_) 20 0 rfl 0 21 (by omega) ?_)))
  · have hsub : (l.filter (fun s => !tp_ov (nI (t + n)) (xen s))).Sublist l := List.filter_sublist
    have hX2 := tp_XE_rm (S := S) hX hsub fun i hi => by
      rw [List.mem_filter]
      have w := hS i hi
      have w2 := tp_bf w
      constructor
      · intro ⟨q1, q2⟩
        refine ⟨q1, w2.mpr fun z => ?_⟩
        have z2 : tp_ov (nI (t + n)) (xen i) = true := z.2
        rw [z2] at q2
        exact Bool.noConfusion q2
      · intro ⟨q1, q2⟩
        refine ⟨q1, ?_⟩
        cases z : tp_ov (nI (t + n)) (xen i)
        · rfl
        · exact absurd ⟨q1, z⟩ (w2.mp q2)
    obtain ⟨yN', ytu', yen', yow', ytk', ymk', hY', hPP⟩ := tp_ypaL (yT := nI (t + n)) (yQ := nI cs.length) (ybu := xit) (yla := xgi) (ywo := ywo) (yho := yho) (ywa := ywa) (x2 := yN) _ (l.map (tp_at xtu en ow tk mk)) [] yN ytu yen yow ytk ymk rfl (by rw [List.append_nil]; exact hY)
    have hke : ∀ s, s ∈ l → tp_kp (nI (t + n)) (en s) = !tp_ov (nI (t + n)) (xen s) := by
      intro s hs
      rcases hE s hs with ⟨w1, w2⟩ | ⟨e, w1, w2, w3, w4⟩
      · rw [w1, w2]
        simp [tp_kp, tp_ov, tp_m1lt]
      · rw [w3, w4]
        have z0 : ¬ nI e ≤ 0 := nI_nle (by omega) (by omega)
        have z1 : ¬ nI e < 0 := nI_pos (by omega)
        simp [tp_kp, tp_ov, z0, z1]
    have hfm : (l.map (tp_at xtu en ow tk mk)).filter (fun e => tp_kp (nI (t + n)) e.2.1) = (l.filter (fun s => !tp_ov (nI (t + n)) (xen s))).map (tp_at xtu en ow tk mk) := by
      rw [List.filter_map]
      congr 1
      exact List.filter_congr fun s hs => hke s hs
    rw [List.append_nil, hfm] at hY'
    have hlen := tp_len_filter (l := l) (fun s => tp_ov (nI (t + n)) (xen s))
    have hT : tp_top (k + 4) (xU &&& (S ^^^ (-1))) (lN a) (nI (t + n)) (nI cs.length) xV xtu xen xag (tp_cl xfi S 16) (tp_cl xse S 16) xit (tp_cl xpt S 4) (tp_cl xtb S 4) (tp_cl xmb S 4) xgi xqu xwh xwt (nI (t + n)) yN' (nI cs.length) ytu' yen' yow' ytk' ymk' xit xgi ywo yho ywa := by
      refine ⟨t + n, a, cs, rfl, rfl, by omega, rfl, by omega, rfl, rfl, ⟨_, en, ow, tk, mk, hX2, fun s hs => hG s (hsub.subset hs), fun s hs => ?_, hY'⟩, rfl, rfl, hQX, hQY, hQC⟩
      obtain ⟨q1, q2⟩ := List.mem_filter.mp hs
      rcases hE s q1 with w | ⟨e, w1, w2, w3, w4⟩
      · exact Or.inl w
      · refine Or.inr ⟨e, ?_, by omega, w3, w4⟩
        rw [w3] at q2
        simp only [tp_ov, Bool.not_and, Bool.not_not, Bool.or_eq_true, decide_eq_true_eq] at q2
        rcases q2 with z | z
        · exact absurd z (nI_nle (by omega) (by omega))
        · exact (nI_ltI (by omega) (by omega)).mp z
    obtain ⟨xU2, xW2, xfi2, xse2, xpt2, xtb2, xmb2, xgi2, xqu2, xwh2, yN2, yQ2, ytu2, yen2, yow2, ytk2, ymk2, yla2, ywo2, yho2, ywa2, hT2, hPX, hPY⟩ := tp_serve hT
    refine br_t (by decide) (tp_xremove (hPX _ ?_))
    have hnd := tp_nd (hX.2.1.filter (fun s => tp_ov (nI (t + n)) (xen s)))
    refine tp_onesIn hnd (fun s hs => Nat.lt_trans (hX.1 s (List.mem_filter.mp hs).1) (by decide)) (tp_SP_SL hS) ?_
    unfold wpY_pass
    have hN := hY.1
    have hN' := hY'.1
    have h20 := hY.2.1
    rw [List.length_map] at hN hN' h20
    have Kx : yN - 1 = nI (l.map (tp_at xtu en ow tk mk)).length - 1 := by rw [hN, List.length_map]
    refine tp_yin1 h1 h2 (br_f (by decide) (nm_r (nI_add t n) (nm_r Kx (Exists.intro _ (hPP _ _ (Nat.lt_succ_self _) fun f => ?_)))))
    refine br_t tp_m1lt (nm_e (hPY _ ⟨?_, hT2⟩))
    rw [hN, hN', pk_sub (by omega)]
    congr 1
    omega
  · intro i hi
    rw [b_0]
    simp
end
section
/-! the end of a transaction -/
def tp_go (x2 c : Int32) (e : tp_E) : Bool := if x2 = 0 then decide (e.2.2.1 = c) else decide (e.2.2.2.1 = c)
def tp_z (o c : Int32) : Int32 := if o = c then -1 else o
def tp_g (c : Int32) (e : tp_E) : tp_E := (e.1, e.2.1, tp_z e.2.2.1 c, tp_z e.2.2.2.1 c, e.2.2.2.2 &&& (((1 : Int32) <<< (c &&& 31)) ^^^ (-1)))
def tp_c1 (a : Nat → Int32) (i : Nat) (c : Int32) : Nat → Int32 := if a i = c then upd a i (-1) else a
theorem tp_c1_s (a : Nat → Int32) (i : Nat) (c : Int32) : tp_c1 a i c i = tp_z (a i) c := by
  unfold tp_c1 tp_z
  by_cases h : a i = c
  · rw [if_pos h, if_pos h, pk_us]
  · rw [if_neg h, if_neg h]
theorem tp_c1_n (a : Nat → Int32) {i j : Nat} (c : Int32) (hj : j ≠ i) : tp_c1 a i c j = a j := by
  unfold tp_c1
  by_cases h : a i = c
  · rw [if_pos h, pk_un hj]
  · rw [if_neg h]
section
variable {yT : Int32} {yN : Int32} {yQ : Int32} {ytu : Nat → Int32} {yen : Nat → Int32} {yow : Nat → Int32} {ytk : Nat → Int32} {ymk : Nat → Int32} {ybu : Nat → Int32} {yla : Nat → Int32} {ywo : Nat → Int32} {yho : Nat → Int32} {ywa : Nat → Int32}
theorem tp_y119 {post : Int32 → SY → Prop} {JJ : Int32 → Int32 → Int32 → Int32 → (Nat → Int32) → (Nat → Int32) → (Nat → Int32) → (Nat → Int32) → (Nat → Int32) → (Nat → Int32) → (Nat → Int32) → (Nat → Int32) → (Nat → Int32) → (Nat → Int32) → Prop} {c x2 x4 : Int32} {i : Nat} (hi : i < 20)
    (h : wY_finish_136 post JJ c x2 (nI i) x4 yT yN yQ ytu yen (tp_c1 yow i c) ytk ymk ybu yla ywo yho ywa) : wY_finish_119 post JJ c x2 (nI i) x4 yT yN yQ ytu yen yow ytk ymk ybu yla ywo yho ywa := by
  have hin : vp_in (nI i) 20 := vp_in_nI hi (by decide)
  have ei : (nI i).toNatClampNeg = i := nI_clamp (by omega)
  refine And.intro hin ?_
  rw [ei]
  by_cases z : yow i = c
  · have e : tp_c1 yow i c = upd yow i (-1) := if_pos z
    rw [e] at h
    exact br_t z (And.intro hin (nm_e h))
  · have e : tp_c1 yow i c = yow := if_neg z
    rw [e] at h
    exact br_f z h
theorem tp_y82 {post : Int32 → SY → Prop} {JJ : Int32 → Int32 → Int32 → Int32 → (Nat → Int32) → (Nat → Int32) → (Nat → Int32) → (Nat → Int32) → (Nat → Int32) → (Nat → Int32) → (Nat → Int32) → (Nat → Int32) → (Nat → Int32) → (Nat → Int32) → Prop} {c x2 x4 : Int32} {i : Nat} (hi : i < 20)
    (h : wY_finish_136 post JJ c x2 (nI i) x4 yT yN yQ ytu yen (tp_c1 yow i c) (tp_c1 ytk i c) (upd ymk i (ymk i &&& (((1 : Int32) <<< (c &&& 31)) ^^^ (-1)))) ybu yla ywo yho ywa) : wY_finish_82 post JJ c x2 (nI i) x4 yT yN yQ ytu yen yow ytk ymk ybu yla ywo yho ywa := by
  have hin : vp_in (nI i) 20 := vp_in_nI hi (by decide)
  have ei : (nI i).toNatClampNeg = i := nI_clamp (by omega)
  refine And.intro hin (And.intro hin ?_)
  rw [ei]
  refine nm_e (And.intro hin ?_)
  by_cases z : ytk i = c
  · have e : tp_c1 ytk i c = upd ytk i (-1) := if_pos z
    rw [e] at h
    exact br_t z (And.intro hin (nm_e (tp_y119 hi h)))
  · have e : tp_c1 ytk i c = ytk := if_neg z
    rw [e] at h
    exact br_f z (tp_y119 hi h)
theorem tp_yf41 {post : Int32 → SY → Prop} {c x2 : Int32} {i n : Nat} (hi : i < 20)
    (h1 : (if x2 = 0 then yow i = c else ytk i = c) → wY_finish_82 post (wY_finish_41 post c x2 n) c x2 (nI i) 1 yT yN yQ ytu yen yow ytk ymk ybu yla ywo yho ywa) (h0 : ¬ (if x2 = 0 then yow i = c else ytk i = c) → wY_finish_82 post (wY_finish_41 post c x2 n) c x2 (nI i) 0 yT yN yQ ytu yen yow ytk ymk ybu yla ywo yho ywa) : wY_finish_41 post c x2 (n + 1) (nI i) yT yN yQ ytu yen yow ytk ymk ybu yla ywo yho ywa := by
  have hin : vp_in (nI i) 20 := vp_in_nI hi (by decide)
  have ei : (nI i).toNatClampNeg = i := nI_clamp (by omega)
  refine br_f (nI_pos (by omega)) ?_
  by_cases hx : x2 = 0
  · rw [if_pos hx] at h1 h0
    refine br_t hx (And.intro hin ?_)
    rw [ei]
    exact ⟨h1, h0⟩
  · rw [if_neg hx] at h1 h0
    refine br_f hx (And.intro hin ?_)
    rw [ei]
    exact ⟨h1, h0⟩
end
section
variable {yT yQ : Int32} {ybu yla ywo yho ywa : Nat → Int32}
theorem tp_yfiL {c x2 : Int32} : ∀ (d : Nat) (a r : List tp_E) (yN : Int32) (ytu yen yow ytk ymk : Nat → Int32), a.length = d → tp_YE (a ++ r) yN ytu yen yow ytk ymk →
    ∃ (yN' : Int32) (ytu' yen' yow' ytk' ymk' : Nat → Int32), tp_YE ((a.filter (fun e => !tp_go x2 c e)).map (tp_g c) ++ r) yN' ytu' yen' yow' ytk' ymk' ∧
      ∀ (post : Int32 → SY → Prop) (n : Nat), d < n → (∀ n, wY_finish_41 post c x2 (n + 1) (-1) yT yN' yQ ytu' yen' yow' ytk' ymk' ybu yla ywo yho ywa) → wY_finish_41 post c x2 n (nI d - 1) yT yN yQ ytu yen yow ytk ymk ybu yla ywo yho ywa := by
  intro d
  induction d with
  | zero =>
    intro a r yN ytu yen yow ytk ymk hd hY
    have e : a = [] := List.eq_nil_of_length_eq_zero hd
    subst e
    refine ⟨yN, ytu, yen, yow, ytk, ymk, hY, fun post n hn hp => ?_⟩
    obtain ⟨n, rfl⟩ : ∃ q, n = q + 1 := ⟨n - 1, by omega⟩
    exact hp n
  | succ d ih =>
    intro a r yN ytu yen yow ytk ymk hd hY
    obtain ⟨b, e, rfl, hb⟩ := tp_last hd
    subst hb
    rw [List.append_assoc, List.singleton_append] at hY
    have hat := tp_YE_i hY
    have h20 := hY.2.1
    have hN := hY.1
    rw [List.length_append, List.length_cons] at h20 hN
    have hpos : ¬ nI b.length < 0 := nI_pos (by omega)
    have hY1 : tp_YE (b ++ tp_g c e :: r) yN ytu yen (tp_c1 yow b.length c) (tp_c1 ytk b.length c) (upd ymk b.length (ymk b.length &&& (((1 : Int32) <<< (c &&& 31)) ^^^ (-1)))) := by
      refine tp_YE_set hY (fun j hj => ?_) ?_
      · unfold tp_at
        rw [tp_c1_n _ _ hj, tp_c1_n _ _ hj, pk_un hj]
      · unfold tp_at
        rw [tp_c1_s, tp_c1_s, pk_us, ← hat]
        rfl
    have hgo : (if x2 = 0 then yow b.length = c else ytk b.length = c) ↔ tp_go x2 c e = true := by
      rw [← hat]
      unfold tp_go tp_at
      by_cases hx : x2 = 0
      · rw [if_pos hx, if_pos hx, decide_eq_true_eq]
      · rw [if_neg hx, if_neg hx, decide_eq_true_eq]
    rw [List.filter_append, List.map_append]
    by_cases hk : tp_go x2 c e = true
    · have hY2 := tp_YE_rm (m := b.length + r.length) hY1 rfl
      obtain ⟨yN', ytu', yen', yow', ytk', ymk', hY', hP⟩ := ih b r _ _ _ _ _ _ rfl hY2
      refine ⟨yN', ytu', yen', yow', ytk', ymk', ?_, fun post n hn hp => ?_⟩
      · rw [List.filter_cons_of_neg (p := fun e : tp_E => !tp_go x2 c e) (by simp [hk]), List.filter_nil, List.map_nil, List.append_nil]
        exact hY'
      · obtain ⟨n, rfl⟩ : ∃ q, n = q + 1 := ⟨n - 1, by omega⟩
        have K := hP post n (by omega) hp
        rw [tp_dnS]
        refine tp_yf41 (by omega) (fun _ => tp_y82 (by omega) ?_) (fun z => absurd (hgo.mpr hk) z)
        exact br_f (by decide) (tp_yremove (m := b.length + r.length) (by omega) (by omega) hN (nm_r (tp_dn _) K))
    · obtain ⟨yN', ytu', yen', yow', ytk', ymk', hY', hP⟩ := ih b (tp_g c e :: r) _ _ _ _ _ _ rfl hY1
      refine ⟨yN', ytu', yen', yow', ytk', ymk', ?_, fun post n hn hp => ?_⟩
      · rw [List.filter_cons_of_pos (p := fun e : tp_E => !tp_go x2 c e) (by simp [hk]), List.filter_nil, List.map_cons, List.map_nil, List.append_assoc, List.singleton_append]
        exact hY'
      · obtain ⟨n, rfl⟩ : ∃ q, n = q + 1 := ⟨n - 1, by omega⟩
        have K := hP post n (by omega) hp
        rw [tp_dnS]
        refine tp_yf41 (by omega) (fun z => absurd (hgo.mp z) hk) (fun _ => tp_y82 (by omega) ?_)
        exact br_t rfl (nm_r (tp_dn _) K)
end
section
variable {t c : Nat} {l : List Nat} {en ow tk mk : Nat → Int32} {xU : Int32} {xA : Int64} {xtu : Nat → Int32} {xag : Nat → Int64} {xfi xse xpt xtb xmb : Nat → Int32}
theorem tp_z_c {o : Int32} (hc : c < 4) : ¬ tp_z o (nI c) = nI c := by
  unfold tp_z
  by_cases h : o = nI c
  · rw [if_pos h]
    exact tp_m1ne (by omega)
  · rw [if_neg h]
    exact h
theorem tp_z_n {o : Int32} {c' : Nat} (hc : c < 4) (hc' : c' < 4) (hn : c' ≠ c) : o = nI c' ↔ tp_z o (nI c) = nI c' := by
  unfold tp_z
  by_cases h : o = nI c
  · rw [if_pos h, h]
    constructor
    · intro w
      exact absurd w (tp_o4_ne hc hc' fun z => hn z.symm)
    · intro w
      exact absurd w (tp_m1ne (by omega))
  · rw [if_neg h]
theorem tp_SP_no {P : Nat → Prop} (h : ∀ i, i ∈ l → ¬ P i) : tp_SP l P 0 := by
  intro i hi
  rw [b_0]
  exact ⟨fun z => Bool.noConfusion z, fun z => absurd z.2 (h i z.1)⟩
theorem tp_XE_zero (h : tp_XE l ow tk mk xU xA xtu xag xfi xse xpt xtb xmb) (hc : c < 4) : tp_XE l (fun s => tp_z (ow s) (nI c)) (fun s => tp_z (tk s) (nI c)) (fun s => mk s &&& (((1 : Int32) <<< (nI c &&& 31)) ^^^ (-1))) xU xA xtu xag xfi xse (upd xpt c 0) (upd xtb c 0) (upd xmb c 0) := by
  obtain ⟨h1, h2, h3, h4, h5, h6, h7, h8, h9⟩ := h
  refine ⟨h1, h2, h3, h4, h5, h6, fun k hk => ?_, fun k hk => ?_, fun k hk => ?_⟩
  · by_cases z : k = c
    · rw [z, pk_us]
      exact tp_SP_no fun i _ => tp_z_c hc
    · rw [pk_un z]
      exact tp_SP_iff (h7 k hk) fun i _ => tp_z_n hc hk z
  · by_cases z : k = c
    · rw [z, pk_us]
      exact tp_SP_no fun i _ => tp_z_c hc
    · rw [pk_un z]
      exact tp_SP_iff (h8 k hk) fun i _ => tp_z_n hc hk z
  · by_cases z : k = c
    · rw [z, pk_us]
      refine tp_SP_no fun i _ => ?_
      rw [tp_andn _ _ (show c < 32 by omega), tp_one (show c < 32 by omega) (show c < 32 by omega)]
      simp
    · rw [pk_un z]
      refine tp_SP_iff (h9 k hk) fun i _ => ?_
      rw [tp_andn _ _ (show k < 32 by omega), tp_one (show c < 32 by omega) (show k < 32 by omega), decide_eq_false z]
      simp
theorem tp_z_o4 {o : Int32} {c : Int32} (h : tp_o4 o) : tp_o4 (tp_z o c) := by
  unfold tp_z
  by_cases z : o = c
  · rw [if_pos z]
    exact Or.inl rfl
  · rw [if_neg z]
    exact h
theorem tp_RG_zero (h : tp_RG l xtu ow tk mk) : tp_RG l xtu (fun s => tp_z (ow s) (nI c)) (fun s => tp_z (tk s) (nI c)) (fun s => mk s &&& (((1 : Int32) <<< (nI c &&& 31)) ^^^ (-1))) := by
  intro s hs
  obtain ⟨g1, g2, g3, g4⟩ := h s hs
  refine ⟨g1, tp_z_o4 g2, tp_z_o4 g3, fun i h4 h32 => ?_⟩
  rw [b_and, g4 i h4 h32, Bool.false_and]
end
end
section
/-! commit, abort -/
section
variable {xU : Int32} {xA : Int64} {xT : Int32} {xW : Int32} {xV : Int32} {xtu : Nat → Int32} {xen : Nat → Int32} {xag : Nat → Int64} {xfi : Nat → Int32} {xse : Nat → Int32} {xit : Nat → Int32} {xpt : Nat → Int32} {xtb : Nat → Int32} {xmb : Nat → Int32} {xgi : Nat → Int32} {xqu : Nat → Int32} {xwh : Nat → Int32} {xwt : Nat → Int32}
variable {yT : Int32} {yN : Int32} {yQ : Int32} {ytu : Nat → Int32} {yen : Nat → Int32} {yow : Nat → Int32} {ytk : Nat → Int32} {ymk : Nat → Int32} {ybu : Nat → Int32} {yla : Nat → Int32} {ywo : Nat → Int32} {yho : Nat → Int32} {ywa : Nat → Int32}
theorem tp_end {k c : Nat} (x2 : Int32) (hc : c < 4) (h : tp_top k xU xA xT xW xV xtu xen xag xfi xse xit xpt xtb xmb xgi xqu xwh xwt yT yN yQ ytu yen yow ytk ymk ybu yla ywo yho ywa) : ∃ (xU' xW' : Int32) (xfi' xse' xit' xpt' xtb' xmb' xgi' xqu' xwh' : Nat → Int32) (yN' yQ' : Int32) (ytu' yen' yow' ytk' ymk' ybu' yla' ywo' yho' ywa' : Nat → Int32),
    tp_top k xU' xA xT xW' xV xtu xen xag xfi' xse' xit' xpt' xtb' xmb' xgi' xqu' xwh' xwt yT yN' yQ' ytu' yen' yow' ytk' ymk' ybu' yla' ywo' yho' ywa' ∧
    (∀ post : SX → Prop, post (xU', xA, xT, xW', xV, xtu, xen, xag, xfi', xse', xit', xpt', xtb', xmb', xgi', xqu', xwh', xwt) → wpX_end post (xU, xA, xT, xW, xV, xtu, xen, xag, xfi, xse, xit, xpt, xtb, xmb, xgi, xqu, xwh, xwt) (nI c) (if x2 = 0 then xpt c else xtb c)) ∧
    (∀ post : Int32 → SY → Prop, post 1 (yT, yN', yQ', ytu', yen', yow', ytk', ymk', ybu', yla', ywo', yho', ywa') → ∃ n, wY_finish_41 post (nI c) x2 n (yN - 1) yT yN yQ ytu yen yow ytk ymk (upd ybu c (vp_nar .boolean 0)) yla ywo yho ywa) := by
  obtain ⟨t, a, cs, h1, h2, h3, h4, h5, rfl, rfl, hR, hW, hQ, hQX, hQY, hQC⟩ := h
  obtain ⟨l, en, ow, tk, mk, hX, hG, hE, hY⟩ := hR
  generalize hSe : (if x2 = 0 then xpt c else xtb c) = S
  have hS : tp_SP l (fun s => tp_go x2 (nI c) (tp_at xtu en ow tk mk s) = true) S := by
    by_cases hx : x2 = 0
    · rw [if_pos hx] at hSe
      rw [← hSe]
      refine tp_SP_iff (hX.2.2.2.2.2.2.1 c hc) fun i _ => ?_
      unfold tp_go tp_at
      rw [if_pos hx, decide_eq_true_eq]
    · rw [if_neg hx] at hSe
      rw [← hSe]
      refine tp_SP_iff (hX.2.2.2.2.2.2.2.1 c hc) fun i _ => ?_
      unfold tp_go tp_at
      rw [if_neg hx, decide_eq_true_eq]
  have hsub : (l.filter (fun s => !tp_go x2 (nI c) (tp_at xtu en ow tk mk s))).Sublist l := List.filter_sublist
  have hX2 := tp_XE_zero (tp_XE_rm (S := S) hX hsub fun i hi => by
    rw [List.mem_filter]
    have w := hS i hi
    have w2 := tp_bf w
    constructor
    · intro ⟨q1, q2⟩
      refine ⟨q1, w2.mpr fun z => ?_⟩
      have z2 : tp_go x2 (nI c) (tp_at xtu en ow tk mk i) = true := z.2
      rw [z2] at q2
      exact Bool.noConfusion q2
    · intro ⟨q1, q2⟩
      refine ⟨q1, ?_⟩
      cases z : tp_go x2 (nI c) (tp_at xtu en ow tk mk i)
      · rfl
      · exact absurd ⟨q1, z⟩ (w2.mp q2)) hc
  obtain ⟨yN', ytu', yen', yow', ytk', ymk', hY', hPP⟩ := tp_yfiL (yT := yT) (yQ := yQ) (ybu := upd xit c (vp_nar .boolean 0)) (yla := xgi) (ywo := ywo) (yho := yho) (ywa := ywa) (c := nI c) (x2 := x2) _ (l.map (tp_at xtu en ow tk mk)) [] yN ytu yen yow ytk ymk rfl (by rw [List.append_nil]; exact hY)
  rw [List.append_nil, List.filter_map, List.map_map] at hY'
  have hT : tp_top k (xU &&& (S ^^^ (-1))) xA xT xW xV xtu xen xag (tp_cl xfi S 16) (tp_cl xse S 16) (upd xit c (vp_nar .boolean 0)) (upd (tp_cl xpt S 4) c 0) (upd (tp_cl xtb S 4) c 0) (upd (tp_cl xmb S 4) c 0) xgi xqu xwh xwt yT yN' yQ ytu' yen' yow' ytk' ymk' (upd xit c (vp_nar .boolean 0)) xgi ywo yho ywa :=
    ⟨t, a, cs, h1, h2, h3, h4, h5, rfl, rfl, ⟨_, en, _, _, _, hX2, tp_RG_zero fun s hs => hG s (hsub.subset hs), fun s hs => hE s (hsub.subset hs), hY'⟩, hW, hQ, hQX, hQY, hQC⟩
  obtain ⟨xU2, xW2, xfi2, xse2, xpt2, xtb2, xmb2, xgi2, xqu2, xwh2, yN2, yQ2, ytu2, yen2, yow2, ytk2, ymk2, yla2, ywo2, yho2, ywa2, hT2, hPX, hPY⟩ := tp_serve hT
  have hinc : vp_in (nI c) 4 := vp_in_nI hc (by decide)
  have ec : (nI c).toNatClampNeg = c := nI_clamp (by omega)
  refine ⟨xU2, xW2, xfi2, xse2, _, xpt2, xtb2, xmb2, xgi2, xqu2, xwh2, yN2, yQ2, ytu2, yen2, yow2, ytk2, ymk2, _, yla2, ywo2, yho2, ywa2, hT2, fun post hp => ?_, fun post hp => ?_⟩
  · refine And.intro hinc (nm_r (e' := upd xit c (vp_nar .boolean 0)) (by rw [ec]) (tp_xremove ?_))
    exact And.intro hinc (nm_r (e' := upd (tp_cl xpt S 4) c 0) (by rw [ec]) (And.intro hinc (nm_r (e' := upd (tp_cl xtb S 4) c 0) (by rw [ec]) (And.intro hinc (nm_r (e' := upd (tp_cl xmb S 4) c 0) (by rw [ec]) (hPX _ hp))))))
  · have w := hPP post _ (Nat.lt_succ_self _) fun f => br_t tp_m1lt (hPY _ hp)
    rw [← hY.1] at w
    exact Exists.intro _ w
theorem tp_xce0 {post : Int32 → Prop} {cs : List Nat} {v : Int32} (hQC : tp_QC cs xwh xwt) (h : (v < 0 ∨ nI 4 ≤ v) ∨ ∃ c : Nat, c < 4 ∧ v = nI c ∧ (c ∈ cs ∨ xit c = 0)) (hp : post 0) : wpX_canEnd post (xU, xA, xT, xW, xV, xtu, xen, xag, xfi, xse, xit, xpt, xtb, xmb, xgi, xqu, xwh, xwt) v := by
  unfold wpX_canEnd
  by_cases hb : v < 0 ∨ nI 4 ≤ v
  · exact tp_xcl0 hb (br_t rfl hp)
  · obtain ⟨c, hc, rfl, h'⟩ := h.resolve_left hb
    refine tp_xcl1 hc (br_f (by decide) ?_)
    by_cases hm : c ∈ cs
    · exact tp_xwt1 hQC hm (br_f (by decide) hp)
    · refine tp_xwt0 hQC hc hm (br_t rfl (And.intro (vp_in_nI hc (by decide)) ?_))
      rw [nI_clamp (by omega)]
      exact br_t (h'.resolve_left hm) hp
theorem tp_xce1 {post : Int32 → Prop} {cs : List Nat} {c : Nat} (hQC : tp_QC cs xwh xwt) (hc : c < 4) (hm : ¬ c ∈ cs) (hi : ¬ xit c = 0) (hp : post 1) : wpX_canEnd post (xU, xA, xT, xW, xV, xtu, xen, xag, xfi, xse, xit, xpt, xtb, xmb, xgi, xqu, xwh, xwt) (nI c) := by
  unfold wpX_canEnd
  refine tp_xcl1 hc (br_f (by decide) (tp_xwt0 hQC hc hm (br_t rfl (And.intro (vp_in_nI hc (by decide)) ?_))))
  rw [nI_clamp (by omega)]
  exact br_f hi hp
theorem tp_yfin0 {post : Int32 → SY → Prop} {cs : List Nat} {v x2 : Int32} (hQ : yQ = nI cs.length) (hQY : tp_QY cs xwh xwt ywo yho ywa) (hQC : tp_QC cs xwh xwt) (h : (v < 0 ∨ nI 4 ≤ v) ∨ ∃ c : Nat, c < 4 ∧ v = nI c ∧ (c ∈ cs ∨ ybu c = 0)) (hp : post 0 (yT, yN, yQ, ytu, yen, yow, ytk, ymk, ybu, yla, ywo, yho, ywa)) : wpY_finish post (yT, yN, yQ, ytu, yen, yow, ytk, ymk, ybu, yla, ywo, yho, ywa) v x2 := by
  unfold wpY_finish
  by_cases hb : v < 0 ∨ nI 4 ≤ v
  · exact tp_ycl0 hb (br_t rfl hp)
  · obtain ⟨c, hc, rfl, h'⟩ := h.resolve_left hb
    refine tp_ycl1 hc (br_f (by decide) (tp_yq1 hQ hQY hQC hc (fun i hi => ?_) (fun z => ?_)))
    · have hl := (List.getElem?_eq_some_iff.mp hi).1
      have := tp_cs4 hQC
      exact br_t (nI_pos' (by omega)) hp
    · refine br_f (by decide) (And.intro (vp_in_nI hc (by decide)) ?_)
      rw [nI_clamp (by omega)]
      exact br_t (h'.resolve_left z) hp
theorem tp_yfin1 {post : Int32 → SY → Prop} {cs : List Nat} {c : Nat} {x2 : Int32} (hQ : yQ = nI cs.length) (hQY : tp_QY cs xwh xwt ywo yho ywa) (hQC : tp_QC cs xwh xwt) (hc : c < 4) (hm : ¬ c ∈ cs) (hi : ¬ ybu c = 0) (hp : ∃ n, wY_finish_41 post (nI c) x2 n (yN - 1) yT yN yQ ytu yen yow ytk ymk (upd ybu c (vp_nar .boolean 0)) yla ywo yho ywa) : wpY_finish post (yT, yN, yQ, ytu, yen, yow, ytk, ymk, ybu, yla, ywo, yho, ywa) (nI c) x2 := by
  unfold wpY_finish
  refine tp_ycl1 hc (br_f (by decide) (tp_yq1 hQ hQY hQC hc (fun i hi' => absurd (List.mem_of_getElem? hi') hm) (fun z => ?_)))
  have hinc : vp_in (nI c) 4 := vp_in_nI hc (by decide)
  refine br_f (by decide) (And.intro hinc ?_)
  rw [nI_clamp (by omega)]
  exact br_f hi (And.intro hinc (nm_e (nm_e hp)))
end
theorem i_vc_commit {k : Nat} {u : SX} {v : SY} (I : i_Rel k u v) (hk : k + 4 ≤ 2048) (v1 : Int32) : wpX_commit (fun r u' => wpY_commit (fun r' v' => r' = r ∧ i_Rel (k + 4) u' v') v v1) u v1 := by
  have J := i_up I
  obtain ⟨xU, xA, xT, xW, xV, xtu, xen, xag, xfi, xse, xit, xpt, xtb, xmb, xgi, xqu, xwh, xwt⟩ := u
  obtain ⟨yT, yN, yQ, ytu, yen, yow, ytk, ymk, ybu, yla, ywo, yho, ywa⟩ := v
  have J' : tp_top (k + 4) xU xA xT xW xV xtu xen xag xfi xse xit xpt xtb xmb xgi xqu xwh xwt yT yN yQ ytu yen yow ytk ymk ybu yla ywo yho ywa := J
  obtain ⟨t, a, cs, h1, h2, h3, h4, h5, rfl, rfl, hR, hW, hQ, hQX, hQY, hQC⟩ := I
  unfold wpX_commit
  by_cases hb : (v1 < 0 ∨ nI 4 ≤ v1) ∨ ∃ c : Nat, c < 4 ∧ v1 = nI c ∧ (c ∈ cs ∨ xit c = 0)
  · refine tp_xce0 hQC hb (br_t rfl ?_)
    unfold wpY_commit
    exact tp_yfin0 hQ hQY hQC hb ⟨narrow_b0, rfl, J⟩
  · obtain ⟨c, hc, rfl⟩ := tp_bad (fun z => hb (Or.inl z))
    have hm : ¬ c ∈ cs := fun z => hb (Or.inr ⟨c, hc, rfl, Or.inl z⟩)
    have hi : ¬ xit c = 0 := fun z => hb (Or.inr ⟨c, hc, rfl, Or.inr z⟩)
    obtain ⟨xU2, xW2, xfi2, xse2, xit2, xpt2, xtb2, xmb2, xgi2, xqu2, xwh2, yN2, yQ2, ytu2, yen2, yow2, ytk2, ymk2, ybu2, yla2, ywo2, yho2, ywa2, hT2, hPX, hPY⟩ := tp_end 1 hc J'
    rw [if_neg (by decide)] at hPX
    refine tp_xce1 hQC hc hm hi (br_f (by decide) (And.intro (vp_in_nI hc (by decide)) ?_))
    rw [nI_clamp (by omega)]
    refine hPX _ ?_
    unfold wpY_commit
    exact tp_yfin1 hQ hQY hQC hc hm hi (hPY _ ⟨narrow_b1, rfl, hT2⟩)
theorem i_vc_abort {k : Nat} {u : SX} {v : SY} (I : i_Rel k u v) (hk : k + 4 ≤ 2048) (v1 : Int32) : wpX_abort (fun r u' => wpY_abort (fun r' v' => r' = r ∧ i_Rel (k + 4) u' v') v v1) u v1 := by
  have J := i_up I
  obtain ⟨xU, xA, xT, xW, xV, xtu, xen, xag, xfi, xse, xit, xpt, xtb, xmb, xgi, xqu, xwh, xwt⟩ := u
  obtain ⟨yT, yN, yQ, ytu, yen, yow, ytk, ymk, ybu, yla, ywo, yho, ywa⟩ := v
  have J' : tp_top (k + 4) xU xA xT xW xV xtu xen xag xfi xse xit xpt xtb xmb xgi xqu xwh xwt yT yN yQ ytu yen yow ytk ymk ybu yla ywo yho ywa := J
  obtain ⟨t, a, cs, h1, h2, h3, h4, h5, rfl, rfl, hR, hW, hQ, hQX, hQY, hQC⟩ := I
  unfold wpX_abort
  by_cases hb : (v1 < 0 ∨ nI 4 ≤ v1) ∨ ∃ c : Nat, c < 4 ∧ v1 = nI c ∧ (c ∈ cs ∨ xit c = 0)
  · refine tp_xce0 hQC hb (br_t rfl ?_)
    unfold wpY_abort
    exact tp_yfin0 hQ hQY hQC hb ⟨narrow_b0, rfl, J⟩
  · obtain ⟨c, hc, rfl⟩ := tp_bad (fun z => hb (Or.inl z))
    have hm : ¬ c ∈ cs := fun z => hb (Or.inr ⟨c, hc, rfl, Or.inl z⟩)
    have hi : ¬ xit c = 0 := fun z => hb (Or.inr ⟨c, hc, rfl, Or.inr z⟩)
    obtain ⟨xU2, xW2, xfi2, xse2, xit2, xpt2, xtb2, xmb2, xgi2, xqu2, xwh2, yN2, yQ2, ytu2, yen2, yow2, ytk2, ymk2, ybu2, yla2, ywo2, yho2, ywa2, hT2, hPX, hPY⟩ := tp_end 0 hc J'
    rw [if_pos rfl] at hPX
    refine tp_xce1 hQC hc hm hi (br_f (by decide) (And.intro (vp_in_nI hc (by decide)) ?_))
    rw [nI_clamp (by omega)]
    refine hPX _ ?_
    unfold wpY_abort
    exact tp_yfin1 hQ hQY hQC hc hm hi (hPY _ ⟨narrow_b1, rfl, hT2⟩)
end
section
/-! the constructors -/
theorem tp_in4 {c : Int32} (h : 0 ≤ c.toInt ∧ c.toInt < 4) : vp_in c 4 := vp_in_iff.mpr h
theorem tp_nsm : vp_nar .short (-4) = -4 := by rw [vp_nar_short]; decide
def tp_f4 (x : Int32) (j : Nat) : Nat → Int32 := fun i => if i < j then x else 0
theorem tp_f4S (x : Int32) (j : Nat) : upd (tp_f4 x j) j x = tp_f4 x (j + 1) := by
  funext i
  unfold upd tp_f4
  by_cases h : i = j
  · rw [if_pos h, if_pos (by omega)]
  · rw [if_neg h]
    by_cases h2 : i < j
    · rw [if_pos h2, if_pos (by omega)]
    · rw [if_neg h2, if_neg (by omega)]
theorem tp_f40 (x : Int32) : tp_f4 x 0 = fun _ => 0 := by
  funext i
  unfold tp_f4
  rw [if_neg (by omega)]
section
variable {xU : Int32} {xA : Int64} {xT : Int32} {xW : Int32} {xV : Int32} {xtu : Nat → Int32} {xen : Nat → Int32} {xag : Nat → Int64} {xfi : Nat → Int32} {xse : Nat → Int32} {xit : Nat → Int32} {xpt : Nat → Int32} {xtb : Nat → Int32} {xmb : Nat → Int32} {xgi : Nat → Int32} {xqu : Nat → Int32} {xwh : Nat → Int32} {xwt : Nat → Int32}
theorem tp_xini {post : SX → Prop} (hp : post (xU, xA, xT, xW, xV, xtu, xen, xag, xfi, xse, xit, xpt, xtb, xmb, (tp_f4 (-4) 4), xqu, (tp_f4 (-1) 4), xwt)) : ∀ (d j : Nat), j + d = 4 → ∀ n, d < n → wX_init_107 post xU xA xT xW xV n (nI j) xtu xen xag xfi xse xit xpt xtb xmb (tp_f4 (-4) j) xqu (tp_f4 (-1) j) xwt := by
  intro d
  induction d with
  | zero =>
    intro j hj n hn
    obtain ⟨n, rfl⟩ : ∃ q, n = q + 1 := ⟨n - 1, by omega⟩
    have e : j = 4 := by omega
    subst e
    exact br_t (nI_le (a := 4) (by omega) (by omega)) hp
  | succ d ih =>
    intro j hj n hn
    obtain ⟨n, rfl⟩ : ∃ q, n = q + 1 := ⟨n - 1, by omega⟩
    have hin : vp_in (nI j) 4 := vp_in_nI (by omega) (by decide)
    have ej : (nI j).toNatClampNeg = j := nI_clamp (by omega)
    exact br_f (nI_ge (b := 4) (by omega) (by decide)) (And.intro hin (nm_r (e' := tp_f4 (-4) (j + 1)) (by rw [ej, tp_nsm, tp_f4S]) (And.intro hin (nm_r (e' := tp_f4 (-1) (j + 1)) (by rw [ej, tp_nbm, tp_f4S]) (nm_r (nI_1 j) (ih (j + 1) (by omega) n (by omega)))))))
end
section
variable {yT : Int32} {yN : Int32} {yQ : Int32} {ytu : Nat → Int32} {yen : Nat → Int32} {yow : Nat → Int32} {ytk : Nat → Int32} {ymk : Nat → Int32} {ybu : Nat → Int32} {yla : Nat → Int32} {ywo : Nat → Int32} {yho : Nat → Int32} {ywa : Nat → Int32}
theorem tp_yini {post : SY → Prop} (hp : post (yT, yN, yQ, ytu, yen, yow, ytk, ymk, ybu, (tp_f4 (-4) 4), ywo, yho, ywa)) : ∀ (d j : Nat), j + d = 4 → ∀ n, d < n → wY_init_96 post yT yN yQ n (nI j) ytu yen yow ytk ymk ybu (tp_f4 (-4) j) ywo yho ywa := by
  intro d
  induction d with
  | zero =>
    intro j hj n hn
    obtain ⟨n, rfl⟩ : ∃ q, n = q + 1 := ⟨n - 1, by omega⟩
    have e : j = 4 := by omega
    subst e
    exact br_t (nI_le (a := 4) (by omega) (by omega)) hp
  | succ d ih =>
    intro j hj n hn
    obtain ⟨n, rfl⟩ : ∃ q, n = q + 1 := ⟨n - 1, by omega⟩
    have hin : vp_in (nI j) 4 := vp_in_nI (by omega) (by decide)
    have ej : (nI j).toNatClampNeg = j := nI_clamp (by omega)
    exact br_f (nI_ge (b := 4) (by omega) (by decide)) (And.intro hin (nm_r (e' := tp_f4 (-4) (j + 1)) (by rw [ej, tp_f4S]) (nm_r (nI_1 j) (ih (j + 1) (by omega) n (by omega)))))
end
theorem tp_SP0 {P : Nat → Prop} : tp_SP [] P 0 := by
  intro i hi
  rw [b_0]
  simp
theorem i_vc0 : wpX_init (fun u => wpY_init (fun v => i_Rel 0 u v)) := by
  have TT : tp_top 0 0 0 0 0 1 (fun _ => 0) (fun _ => 0) (fun _ => 0) (fun _ => 0) (fun _ => 0) (fun _ => 0) (fun _ => 0) (fun _ => 0) (fun _ => 0) (tp_f4 (-4) 4) (fun _ => 0) (tp_f4 (-1) 4) (fun _ => 0) 0 0 0 (fun _ => 0) (fun _ => 0) (fun _ => 0) (fun _ => 0) (fun _ => 0) (fun _ => 0) (tp_f4 (-4) 4) (fun _ => 0) (fun _ => 0) (fun _ => 0) := by
    refine ⟨0, 0, [], rfl, rfl, by omega, rfl, by omega, rfl, rfl, ⟨[], fun _ => 0, fun _ => 0, fun _ => 0, fun _ => 0, ⟨?_, ?_, ?_, ?_, ?_, ?_, ?_, ?_, ?_⟩, ?_, ?_, ?_⟩, rfl, rfl, ?_, ?_, ?_⟩
    · intro s hs
      simp at hs
    · exact List.Pairwise.nil
    · intro s hs
      simp at hs
    · intro i hi
      rw [b_0]
      simp
    · exact fun k _ => tp_SP0
    · exact fun k _ => tp_SP0
    · exact fun k _ => tp_SP0
    · exact fun k _ => tp_SP0
    · exact fun k _ => tp_SP0
    · intro s hs
      simp at hs
    · intro s hs
      simp at hs
    · exact ⟨rfl, by simp, fun i e hi => by simp at hi⟩
    · intro i c hi
      simp at hi
    · intro i c hi
      simp at hi
    · refine ⟨List.Pairwise.nil, fun c hc => ?_, fun c hc _ => ?_⟩
      · simp at hc
      · unfold tp_f4
        rw [if_pos hc]
  have YY : wpY_init (fun v => i_Rel 0 (0, 0, 0, 0, 1, (fun _ => 0), (fun _ => 0), (fun _ => 0), (fun _ => 0), (fun _ => 0), (fun _ => 0), (fun _ => 0), (fun _ => 0), (fun _ => 0), (tp_f4 (-4) 4), (fun _ => 0), (tp_f4 (-1) 4), (fun _ => 0)) v) := by
    have w := tp_yini (post := fun v => i_Rel 0 (0, 0, 0, 0, 1, (fun _ => 0), (fun _ => 0), (fun _ => 0), (fun _ => 0), (fun _ => 0), (fun _ => 0), (fun _ => 0), (fun _ => 0), (fun _ => 0), (tp_f4 (-4) 4), (fun _ => 0), (tp_f4 (-1) 4), (fun _ => 0)) v) (yT := 0) (yN := 0) (yQ := 0) (ytu := fun _ => 0) (yen := fun _ => 0) (yow := fun _ => 0) (ytk := fun _ => 0) (ymk := fun _ => 0) (ybu := fun _ => 0) (ywo := fun _ => 0) (yho := fun _ => 0) (ywa := fun _ => 0) TT 4 0 rfl 5 (by omega)
    rw [tp_f40] at w
    exact Exists.intro 5 w
  have w := tp_xini (post := fun u => wpY_init (fun v => i_Rel 0 u v)) (xU := 0) (xA := 0) (xT := 0) (xW := 0) (xV := 1) (xtu := fun _ => 0) (xen := fun _ => 0) (xag := fun _ => 0) (xfi := fun _ => 0) (xse := fun _ => 0) (xit := fun _ => 0) (xpt := fun _ => 0) (xtb := fun _ => 0) (xmb := fun _ => 0) (xqu := fun _ => 0) (xwt := fun _ => 0) YY 4 0 rfl 5 (by omega)
  rw [tp_f40, tp_f40] at w
  exact Exists.intro 5 w
end
