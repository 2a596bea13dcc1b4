section
/-! rows of kit/rows (a starting text) -/
theorem pk_us {f : Nat → Int32} {k : Nat} {x : Int32} : upd f k x k = x := if_pos rfl
theorem pk_un {f : Nat → Int32} {k j : Nat} {x : Int32} (h : j ≠ k) : upd f k x j = f j := if_neg h
theorem pk_uLs {f : Nat → Int64} {k : Nat} {x : Int64} : vp_updL f k x k = x := if_pos rfl
theorem pk_uLn {f : Nat → Int64} {k j : Nat} {x : Int64} (h : j ≠ k) : vp_updL f k x j = f j := if_neg h
theorem pk_sub {a b : Nat} (h : b ≤ a) : nI a - nI b = nI (a - b) := by
  obtain ⟨c, rfl⟩ : ∃ c, a = c + b := ⟨a - b, by omega⟩
  rw [← nI_add, Int32.add_sub_cancel, Nat.add_sub_cancel]
theorem pk_mul (a b : Nat) : nI a * nI b = nI (a * b) := (Int32.ofNat_mul a b).symm
theorem pk_ix (x : Int32) {n : Nat} (hn : n < 2 ^ 31) : x < 0 ∨ nI n ≤ x ∨ ∃ j : Nat, j < n ∧ x = nI j := by
  by_cases h : x < 0
  · exact Or.inl h
  · obtain ⟨j, hj, rfl⟩ := nI_of h
    by_cases h2 : j < n
    · exact Or.inr (Or.inr ⟨j, h2, rfl⟩)
    · exact Or.inr (Or.inl (nI_le (by omega) hj))
theorem pk_le {x y : Int32} {A B : Prop} (a b : Nat) (f : a ≤ b → A) (g : b < a → B) (hx : x = nI a := by rfl) (hy : y = nI b := by rfl) (ha : a < 2 ^ 31 := by omega) (hb : b < 2 ^ 31 := by omega) : (x ≤ y → A) ∧ (¬ x ≤ y → B) := by
  subst hx hy
  rw [nI_leI ha hb]
  exact ⟨f, fun z => g (by omega)⟩
theorem pk_lt {x y : Int32} {A B : Prop} (a b : Nat) (f : a < b → A) (g : b ≤ a → B) (hx : x = nI a := by rfl) (hy : y = nI b := by rfl) (ha : a < 2 ^ 31 := by omega) (hb : b < 2 ^ 31 := by omega) : (x < y → A) ∧ (¬ x < y → B) := by
  subst hx hy
  rw [nI_ltI ha hb]
  exact ⟨f, fun z => g (by omega)⟩
theorem pk_eq {x y : Int32} {A B : Prop} (a b : Nat) (f : a = b → A) (g : a ≠ b → B) (hx : x = nI a := by rfl) (hy : y = nI b := by rfl) (ha : a < 2 ^ 31 := by omega) (hb : b < 2 ^ 31 := by omega) : (x = y → A) ∧ (¬ x = y → B) := by
  subst hx hy
  rw [nI_eq ha hb]
  exact ⟨f, g⟩
theorem pk_in {x : Int32} (n N : Nat) (h : n < N) (hx : x = nI n := by rfl) (hN : N < 2 ^ 31 := by omega) : vp_in x N := by
  subst hx
  exact vp_in_nI h hN
theorem pk_cl {x : Int32} (n : Nat) (hx : x = nI n := by rfl) (h : n < 2 ^ 31 := by omega) : x.toNatClampNeg = n := by
  subst hx
  exact nI_clamp h
theorem pk_tn {n : Nat} (h : n < 2 ^ 32) : (nI n).toBitVec.toNat = n := Nat.mod_eq_of_lt h
theorem pk_and (x : Int32) {m : Int32} (k : Nat) (hm : m.toBitVec.toNat = 2 ^ k - 1) : x &&& m = nI (x.toBitVec.toNat % 2 ^ k) := by
  apply Int32.toBitVec_inj.mp
  apply BitVec.eq_of_toNat_eq
  rw [Int32.toBitVec_and, BitVec.toNat_and, hm, Nat.and_two_pow_sub_one_eq_mod]
  show _ = (BitVec.ofNat 32 _).toNat
  rw [BitVec.toNat_ofNat]
  exact (Nat.mod_eq_of_lt (Nat.lt_of_le_of_lt (Nat.mod_le _ _) x.toBitVec.isLt)).symm
theorem pk_andE (x : Int32) {m : Int32} (k : Nat) (hm : m.toBitVec.toNat = 2 ^ k - 1) : ∃ j : Nat, j < 2 ^ k ∧ x &&& m = nI j := ⟨_, Nat.mod_lt _ (Nat.two_pow_pos k), pk_and x k hm⟩
theorem pk_nb (z : Int32) : narrow .byte (.int z.toInt8.toInt32) = .int z.toInt8.toInt32 := congrArg Value.int (by simp)
theorem pk_ns (z : Int32) : narrow .short (.int z.toInt16.toInt32) = .int z.toInt16.toInt32 := congrArg Value.int (by simp)
theorem pk_charN {q : Nat} (hq : q < 65536) : narrow .char (.int (nI q)) = .int (nI q) ∧ fits .char (.int (nI q)) = true := by
  constructor
  · have e : (nI q).toUInt32.toUInt16.toUInt32.toInt32 = nI q := by
      apply Int32.toBitVec_inj.mp
      apply BitVec.eq_of_toNat_eq
      show (nI q).toUInt32.toUInt16.toUInt32.toNat = q % 2 ^ 32
      rw [UInt16.toNat_toUInt32, UInt32.toNat_toUInt16, show (nI q).toUInt32.toNat = q % 2 ^ 32 from rfl]
      omega
    exact congrArg Value.int e
  · have a : (0 : Int32) ≤ nI q := nI_pos' (by omega)
    have b : nI q ≤ 65535 := nI_le (b := 65535) (by omega) (by decide)
    show (decide ((0 : Int32) ≤ nI q) && decide (nI q ≤ 65535)) = true
    rw [decide_eq_true a, decide_eq_true b]
    rfl
theorem pk_char (x : Int32) : (x.toUInt32 % 65536).toInt32 = nI (x.toBitVec.toNat % 65536) := by
  apply Int32.toBitVec_inj.mp
  apply BitVec.eq_of_toNat_eq
  rw [pk_tn (by omega)]
  show (x.toUInt32 % 65536).toNat = _
  rw [UInt32.toNat_mod]
  rfl
theorem pk_nc (x : Int32) : narrow .char (.int (x.toUInt32 % 65536).toInt32) = .int (x.toUInt32 % 65536).toInt32 := by
  rw [pk_char]
  exact (pk_charN (Nat.mod_lt _ (by decide))).1
theorem pk_vb (z : Int32) : vp_nar .byte z.toInt8.toInt32 = z.toInt8.toInt32 := by rw [vp_nar_byte]; simp
theorem pk_vs (z : Int32) : vp_nar .short z.toInt16.toInt32 = z.toInt16.toInt32 := by rw [vp_nar_short]; simp
theorem pk_vc (z : Int32) : vp_nar .char (z.toUInt32 % 65536).toInt32 = (z.toUInt32 % 65536).toInt32 := Value.int.inj (pk_nc z)
theorem ek_if {c d A B : Prop} (e : c ↔ d) (f : d → A) (g : ¬ d → B) : (c → A) ∧ (¬ c → B) :=
  ⟨fun z => f (e.mp z), fun z => g (fun y => z (e.mpr y))⟩
theorem nx_and (a b : Nat) : nI a &&& nI b = nI (a &&& b) := by
  apply Int32.toBitVec_inj.1
  show BitVec.ofNat 32 a &&& BitVec.ofNat 32 b = BitVec.ofNat 32 (a &&& b)
  apply BitVec.eq_of_getLsbD_eq
  intro i hi
  simp [hi]
theorem nx_mod (k : Nat) : nI k &&& 65535 = nI (k % 65536) := by
  show nI k &&& nI 65535 = _
  rw [nx_and, show (65535 : Nat) = 2 ^ 16 - 1 from rfl, Nat.and_two_pow_sub_one_eq_mod]
theorem wb_tb (n : Nat) : (lN n).toBitVec = BitVec.ofNat 64 n := rfl
theorem wb_inj {a b : Int64} (h : a.toBitVec = b.toBitVec) : a = b := Int64.toBitVec_inj.mp h
theorem wb_tn {n : Nat} (h : n < 2 ^ 64) : (lN n).toBitVec.toNat = n := by rw [wb_tb, BitVec.toNat_ofNat, Nat.mod_eq_of_lt h]
theorem wb_of (x : Int64) : ∃ n, n < 2 ^ 64 ∧ x = lN n := ⟨x.toBitVec.toNat, x.toBitVec.isLt, wb_inj (by rw [wb_tb]; simp)⟩
theorem wb_c : ∀ k, k < 64 → ((nI k).toInt64 &&& 63) = lN k := by decide +kernel
theorem wb_cu : ∀ k, k < 64 → ((nI k).toInt64.toUInt64 &&& Int64.toUInt64 63) = UInt64.ofNat k := by decide +kernel
theorem wb_sm : ∀ k, k < 64 → (BitVec.ofNat 64 k).smod 64 = BitVec.ofNat 64 k := by decide +kernel
theorem wb_lt2 {a b : Nat} (h : a < b) : 2 ^ a < 2 ^ b := Nat.pow_lt_pow_right (by decide) h
theorem wb_shr {n k : Nat} (hn : n < 2 ^ 64) (hk : k < 64) : ((lN n).toUInt64 >>> ((nI k).toInt64.toUInt64 &&& Int64.toUInt64 63)).toInt64 = lN (n / 2 ^ k) := by
  rw [wb_cu k hk]
  apply wb_inj
  apply BitVec.eq_of_toNat_eq
  show ((lN n).toUInt64 >>> UInt64.ofNat k).toNat = (BitVec.ofNat 64 _).toNat
  have h1 : (UInt64.ofNat k).toNat = k := by
    show (BitVec.ofNat 64 k).toNat = k
    rw [BitVec.toNat_ofNat, Nat.mod_eq_of_lt (by omega)]
  have h2 : (lN n).toUInt64.toNat = n := wb_tn hn
  rw [UInt64.toNat_shiftRight, h1, h2, Nat.mod_eq_of_lt hk, Nat.shiftRight_eq_div_pow, BitVec.toNat_ofNat, Nat.mod_eq_of_lt (Nat.lt_of_le_of_lt (Nat.div_le_self _ _) hn)]
theorem wb_and {a b : Nat} (ha : a < 2 ^ 64) (hb : b < 2 ^ 64) : lN a &&& lN b = lN (a &&& b) := by
  apply wb_inj
  rw [Int64.toBitVec_and, wb_tb, wb_tb, wb_tb]
  apply BitVec.eq_of_toNat_eq
  rw [BitVec.toNat_and, BitVec.toNat_ofNat, BitVec.toNat_ofNat, BitVec.toNat_ofNat, Nat.mod_eq_of_lt ha, Nat.mod_eq_of_lt hb, Nat.mod_eq_of_lt (Nat.and_lt_two_pow _ hb)]
theorem wb_or {a b : Nat} (ha : a < 2 ^ 64) (hb : b < 2 ^ 64) : lN a ||| lN b = lN (a ||| b) := by
  apply wb_inj
  rw [Int64.toBitVec_or, wb_tb, wb_tb, wb_tb]
  apply BitVec.eq_of_toNat_eq
  rw [BitVec.toNat_or, BitVec.toNat_ofNat, BitVec.toNat_ofNat, BitVec.toNat_ofNat, Nat.mod_eq_of_lt ha, Nat.mod_eq_of_lt hb, Nat.mod_eq_of_lt (Nat.or_lt_two_pow ha hb)]
theorem wb_mask {n k : Nat} (hn : n < 2 ^ 64) (hk : k < 64) : lN n &&& lN (2 ^ k - 1) = lN (n % 2 ^ k) := by
  rw [wb_and hn (by have := wb_lt2 hk; omega), Nat.and_two_pow_sub_one_eq_mod]
theorem wb_a1 {n : Nat} (hn : n < 2 ^ 64) : lN n &&& 1 = lN (n % 2) := wb_mask (k := 1) hn (by decide)
theorem wb_bit {n k : Nat} (hn : n < 2 ^ 64) (hk : k < 64) : ((lN n).toUInt64 >>> ((nI k).toInt64.toUInt64 &&& Int64.toUInt64 63)).toInt64 &&& 1 = lN (n / 2 ^ k % 2) := by
  rw [wb_shr hn hk, wb_a1 (Nat.lt_of_le_of_lt (Nat.div_le_self _ _) hn)]
end
section
/-! numbers, narrow stores, bits, list cells; the pure functions -/
theorem md_vb0 : ∀ s, s < 6 → (nI s).toInt8.toInt32 = nI s := by decide +kernel
theorem md_vb {s : Nat} (h : s < 6) : vp_nar .byte (nI s).toInt8.toInt32 = nI s := by rw [pk_vb, md_vb0 s h]
theorem md_vc0 : ∀ e, e < 6 → ((nI e).toUInt32 % 65536).toInt32 = nI e := by decide +kernel
theorem md_vc {e : Nat} (h : e < 6) : vp_nar .char ((nI e).toUInt32 % 65536).toInt32 = nI e := by rw [pk_vc, md_vc0 e h]
theorem md_vc1 {e : Nat} (h : e < 6) : vp_nar .char (nI e) = nI e := by
  have z := md_vc h
  rw [md_vc0 e h] at z
  exact z
theorem md_sl : ∀ e, e < 6 → (1 : Int32) <<< (nI e &&& 31) = nI (2 ^ e) := by decide +kernel
theorem md_slL : ∀ e, e < 6 → (1 : Int64) <<< ((nI e).toInt64 &&& 63) = lN (2 ^ e) := by decide +kernel
theorem md_or (a b : Nat) : nI a ||| nI b = nI (a ||| b) := by
  apply Int32.toBitVec_inj.1
  show BitVec.ofNat 32 a ||| BitVec.ofNat 32 b = BitVec.ofNat 32 (a ||| b)
  apply BitVec.eq_of_getLsbD_eq
  intro i hi
  simp [hi]
theorem md_orL (a b : Nat) : lN a ||| lN b = lN (a ||| b) := by
  apply Int64.toBitVec_inj.1
  show BitVec.ofNat 64 a ||| BitVec.ofNat 64 b = BitVec.ofNat 64 (a ||| b)
  apply BitVec.eq_of_getLsbD_eq
  intro i hi
  simp [hi]
theorem md_bit : ∀ m, m < 64 → ∀ o, o < 6 → ((((nI m) >>> (nI o &&& 31)) &&& 1) = 0 ↔ m.testBit o = false) := by decide +kernel
theorem md_bitL : ∀ m, m < 64 → ∀ o, o < 6 → (((((lN m).toUInt64 >>> ((nI o).toInt64.toUInt64 &&& Int64.toUInt64 63)).toInt64) &&& 1) = 0 ↔ m.testBit o = false) := by decide +kernel
/-- cell k of the list L -/
def md_le (L k : Nat) : Nat := L / 2 ^ (16 * k) % 65536
theorem md_16 (k : Nat) : (16 : Int32) * nI k = nI (16 * k) := pk_mul 16 k
theorem md_xe {L k : Nat} (hL : L < 2 ^ 64) (hk : k ≤ 3) : ((((lN L).toUInt64 >>> ((16 * nI k).toInt64.toUInt64 &&& Int64.toUInt64 63)).toInt64) &&& 65535).toInt32 = nI (md_le L k) := by
  have hb : L / 2 ^ (16 * k) < 2 ^ 64 := Nat.lt_of_le_of_lt (Nat.div_le_self _ _) hL
  have hm : lN (L / 2 ^ (16 * k)) &&& 65535 = lN (L / 2 ^ (16 * k) % 65536) := wb_mask (k := 16) hb (by decide)
  rw [md_16, wb_shr hL (by omega), hm, lN_i]
  rfl
theorem md_ye {L k : Nat} (hL : L < 2 ^ 64) (hk : k ≤ 3) : ((((lN L).toUInt64 >>> ((16 * nI k).toInt64.toUInt64 &&& Int64.toUInt64 63)).toInt64).toInt32) &&& 65535 = nI (md_le L k) := by
  rw [md_16, wb_shr hL (by omega), lN_i, nx_mod]
  rfl
theorem md_yc {L k : Nat} (hL : L < 2 ^ 64) (hk : k ≤ 3) : (((((lN L).toUInt64 >>> ((16 * nI k).toInt64.toUInt64 &&& Int64.toUInt64 63)).toInt64).toInt32).toUInt32 % 65536).toInt32 = nI (md_le L k) := by
  rw [md_16, wb_shr hL (by omega), lN_i, pk_char]
  have e : (nI (L / 2 ^ (16 * k))).toBitVec.toNat = L / 2 ^ (16 * k) % 2 ^ 32 := BitVec.toNat_ofNat _ _
  rw [e]
  unfold md_le
  congr 1
  generalize L / 2 ^ (16 * k) = q
  omega
theorem md_xn {L : Nat} (hL : L < 2 ^ 64) : (lN L &&& 65535).toInt32 = nI (L % 65536) := by
  have hm : lN L &&& 65535 = lN (L % 65536) := wb_mask (k := 16) hL (by decide)
  rw [hm, lN_i]
theorem md_yn (L : Nat) : (lN L).toInt32 &&& 65535 = nI (L % 65536) := by
  rw [lN_i, nx_mod]
theorem md_yn3 {L : Nat} (hL : L < 2 ^ 64) : (lN L &&& 65535) ≤ 3 ↔ L % 65536 ≤ 3 := by
  have hm : lN L &&& 65535 = lN (L % 65536) := wb_mask (k := 16) hL (by decide)
  rw [hm]
  exact lN_le (b := 3) (by omega) (by decide)
/-! arrays of naturals -/
def md_a (f : Nat → Nat) : Nat → Int32 := fun j => nI (f j)
def md_l (f : Nat → Nat) : Nat → Int64 := fun j => lN (f j)
def md_u (f : Nat → Nat) (k x : Nat) : Nat → Nat := fun j => if j = k then x else f j
theorem md_us {f : Nat → Nat} {k x : Nat} : md_u f k x k = x := if_pos rfl
theorem md_un {f : Nat → Nat} {k j x : Nat} (h : j ≠ k) : md_u f k x j = f j := if_neg h
theorem md_uu {f : Nat → Nat} {k x y : Nat} : md_u (md_u f k x) k y = md_u f k y := by
  funext j
  unfold md_u
  by_cases h : j = k
  · rw [if_pos h, if_pos h]
  · rw [if_neg h, if_neg h, if_neg h]
theorem md_uid {f : Nat → Nat} {k x : Nat} (h : f k = x) : md_u f k x = f := by
  funext j
  unfold md_u
  by_cases e : j = k
  · rw [if_pos e, e, h]
  · rw [if_neg e]
theorem md_at {f : Nat → Nat} {k : Nat} (h : k < 2 ^ 31) : md_a f (nI k).toNatClampNeg = nI (f k) := by rw [nI_clamp h]; rfl
theorem md_lt {f : Nat → Nat} {k : Nat} (h : k < 2 ^ 31) : md_l f (nI k).toNatClampNeg = lN (f k) := by rw [nI_clamp h]; rfl
theorem md_au {f : Nat → Nat} {k x : Nat} (h : k < 2 ^ 31) : upd (md_a f) (nI k).toNatClampNeg (nI x) = md_a (md_u f k x) := by
  rw [nI_clamp h]
  funext j
  unfold upd md_a md_u
  by_cases e : j = k
  · rw [if_pos e, if_pos e]
  · rw [if_neg e, if_neg e]
theorem md_lu {f : Nat → Nat} {k x : Nat} (h : k < 2 ^ 31) : vp_updL (md_l f) (nI k).toNatClampNeg (lN x) = md_l (md_u f k x) := by
  rw [nI_clamp h]
  funext j
  unfold vp_updL md_l md_u
  by_cases e : j = k
  · rw [if_pos e, if_pos e]
  · rw [if_neg e, if_neg e]
theorem md_su {f : Nat → Nat} {k x : Nat} (h0 : 0 < k) (h : k < 2 ^ 31) : upd (upd (md_a f) 0 (-1)) (nI k).toNatClampNeg (nI x) = upd (md_a (md_u f k x)) 0 (-1) := by
  rw [nI_clamp h]
  funext j
  unfold upd md_a md_u
  by_cases e : j = k
  · rw [if_pos e, if_neg (by omega), if_pos e]
  · rw [if_neg e, if_neg e]
theorem md_s0 {f : Nat → Nat} {k : Nat} (h0 : 0 < k) (h : k < 2 ^ 31) : upd (md_a f) 0 (-1) (nI k).toNatClampNeg = nI (f k) := by
  rw [nI_clamp h, pk_un (by omega)]
  rfl
/-! a value that is -1 or a method's number -/
def md_V (x : Int32) : Prop := x = -1 ∨ ∃ i : Nat, i < 8 ∧ x = nI i
theorem md_m1 : (-1 : Int32) < 0 := by decide
theorem md_Vn {x : Int32} (h : md_V x) (hx : x < 0) : x = -1 := by
  rcases h with h | ⟨i, hi, rfl⟩
  · exact h
  · exact absurd hx (nI_pos (by omega))
theorem md_Vp {x : Int32} (h : md_V x) (hx : ¬ x < 0) : ∃ i : Nat, i < 8 ∧ x = nI i := by
  rcases h with rfl | h
  · exact absurd md_m1 hx
  · exact h
theorem md_V8 : ∀ i, i < 8 → (nI i).toInt16.toInt32 = nI i := by decide +kernel
theorem md_Vs {x : Int32} (h : md_V x) : vp_nar .short x.toInt16.toInt32 = x := by
  rw [pk_vs]
  rcases h with rfl | ⟨i, hi, rfl⟩
  · decide
  · exact md_V8 i hi
theorem md_nle {x : Int32} (h : ¬ x < 0) : 0 ≤ x := Int32.not_lt.mp h
theorem md_lnle {x : Int32} (h : x < 0) : ¬ 0 ≤ x := Int32.not_le.mpr h
end
section
/-! the pure functions of the walks and what they answer -/
def md_fd (ow nm ds : Nat → Int32) (o n d : Int32) : Nat → Nat → Int32
  | 0, _ => -1
  | k + 1, i => if ow i = o ∧ nm i = n ∧ ds i = d then nI i else md_fd ow nm ds o n d k (i + 1)
theorem md_fd_spec {ow nm ds : Nat → Int32} {o n d : Int32} : ∀ k i, (md_fd ow nm ds o n d k i = -1 ∧ ∀ j, i ≤ j → j < i + k → ¬ (ow j = o ∧ nm j = n ∧ ds j = d)) ∨ (∃ j, i ≤ j ∧ j < i + k ∧ (ow j = o ∧ nm j = n ∧ ds j = d) ∧ md_fd ow nm ds o n d k i = nI j) := by
  intro k
  induction k with
  | zero => intro i; exact Or.inl ⟨rfl, fun j h1 h2 => absurd h2 (by omega)⟩
  | succ k ih =>
    intro i
    unfold md_fd
    by_cases h : ow i = o ∧ nm i = n ∧ ds i = d
    · rw [if_pos h]
      exact Or.inr ⟨i, Nat.le_refl _, by omega, h, rfl⟩
    · rw [if_neg h]
      rcases ih (i + 1) with ⟨e, z⟩ | ⟨j, h1, h2, h3, h4⟩
      · refine Or.inl ⟨e, fun j h1 h2 => ?_⟩
        rcases Nat.lt_or_ge i j with g | g
        · exact z j (by omega) (by omega)
        · have e2 : j = i := by omega
          rw [e2]
          exact h
      · exact Or.inr ⟨j, by omega, by omega, h3, h4⟩
theorem md_fd_V {ow nm ds : Nat → Int32} {o n d : Int32} {M : Nat} (hM : M ≤ 8) : md_V (md_fd ow nm ds o n d M 0) := by
  rcases md_fd_spec (ow := ow) (nm := nm) (ds := ds) (o := o) (n := n) (d := d) M 0 with ⟨e, _⟩ | ⟨j, _, h2, _, h4⟩
  · exact Or.inl e
  · exact Or.inr ⟨j, by omega, h4⟩
def md_ca (fl : Nat → Int32) (r : Int32) : Int32 := if r < 0 then -1 else if fl r.toNatClampNeg &&& 10 = 0 then r else -1
/-- the candidate that type j declares, or -1 -/
def md_cj (M : Nat) (ow nm ds fl : Nat → Int32) (n d : Int32) (j : Nat) : Int32 := md_ca fl (md_fd ow nm ds (nI j) n d M 0)
theorem md_ca_V {fl : Nat → Int32} {r : Int32} (h : md_V r) : md_V (md_ca fl r) := by
  unfold md_ca
  by_cases h1 : r < 0
  · rw [if_pos h1]; exact Or.inl rfl
  · rw [if_neg h1]
    by_cases h2 : fl r.toNatClampNeg &&& 10 = 0
    · rw [if_pos h2]; exact h
    · rw [if_neg h2]; exact Or.inl rfl
theorem md_cj_V {M : Nat} {ow nm ds fl : Nat → Int32} {n d : Int32} {j : Nat} (hM : M ≤ 8) : md_V (md_cj M ow nm ds fl n d j) := md_ca_V (md_fd_V hM)
/-- method i has the name, the descriptor and the flags of a candidate -/
def md_N (nm ds fl : Nat → Int32) (n d : Int32) (i : Nat) : Prop := nm i = n ∧ ds i = d ∧ fl i &&& 10 = 0
theorem md_cj_spec {M : Nat} {O : Nat → Nat} {nm ds fl : Nat → Int32} {n d : Int32} {t : Nat} (hM : M ≤ 8) (ht : t < 6) (hO : ∀ i, i < M → O i < 6) (hu : ∀ i, i < M → ∀ i', i' < M → O i = O i' → nm i = nm i' → ds i = ds i' → i = i') : (md_cj M (md_a O) nm ds fl n d t = -1 ∧ ∀ i, i < M → O i = t → ¬ md_N nm ds fl n d i) ∨ (∃ i, i < M ∧ O i = t ∧ md_N nm ds fl n d i ∧ md_cj M (md_a O) nm ds fl n d t = nI i) := by
  have hq : ∀ i, i < M → (md_a O i = nI t ↔ O i = t) := fun i hi => nI_eq (by have := hO i hi; omega) (by omega)
  unfold md_cj
  rcases md_fd_spec (ow := md_a O) (nm := nm) (ds := ds) (o := nI t) (n := n) (d := d) M 0 with ⟨e, z⟩ | ⟨j, _, h2, h3, h4⟩
  · left
    rw [e]
    refine ⟨rfl, fun i hi ho hn => z i (Nat.zero_le _) (by omega) ⟨(hq i hi).mpr ho, hn.1, hn.2.1⟩⟩
  · have hj : j < M := by omega
    rw [h4]
    unfold md_ca
    rw [if_neg (nI_pos (by omega)), nI_clamp (by omega)]
    by_cases hf : fl j &&& 10 = 0
    · rw [if_pos hf]
      exact Or.inr ⟨j, hj, (hq j hj).mp h3.1, ⟨h3.2.1, h3.2.2, hf⟩, rfl⟩
    · rw [if_neg hf]
      refine Or.inl ⟨rfl, fun i hi ho hn => ?_⟩
      have e : i = j := hu i hi j hj (ho.trans ((hq j hj).mp h3.1).symm) (hn.1.trans h3.2.1.symm) (hn.2.1.trans h3.2.2.symm)
      exact hf (e ▸ hn.2.2)
/-! a Prop as a Bool; count, last, any -/
noncomputable def md_b (P : Prop) : Bool := @decide P (Classical.propDecidable P)
theorem md_b_t {P : Prop} : md_b P = true ↔ P := @decide_eq_true_iff P (Classical.propDecidable P)
def md_cn (p : Nat → Bool) : Nat → Nat
  | 0 => 0
  | i + 1 => if p i = true then md_cn p i + 1 else md_cn p i
def md_ls (f : Nat → Int32) (p : Nat → Bool) : Nat → Int32
  | 0 => -1
  | i + 1 => if p i = true then f i else md_ls f p i
def md_an (p : Nat → Bool) : Nat → Int32
  | 0 => 0
  | i + 1 => if p i = true then 1 else md_an p i
theorem md_cn_le {p : Nat → Bool} : ∀ n, md_cn p n ≤ n := by
  intro n
  induction n with
  | zero => exact Nat.le_refl _
  | succ n ih =>
    unfold md_cn
    by_cases h : p n = true
    · rw [if_pos h]; omega
    · rw [if_neg h]; omega
theorem md_cn_0 {p : Nat → Bool} : ∀ n, md_cn p n = 0 → ∀ j, j < n → ¬ p j = true := by
  intro n
  induction n with
  | zero => intro _ j hj; omega
  | succ n ih =>
    intro h j hj
    unfold md_cn at h
    by_cases hp : p n = true
    · rw [if_pos hp] at h; omega
    · rw [if_neg hp] at h
      rcases Nat.lt_or_ge j n with g | g
      · exact ih h j g
      · have e : j = n := by omega
        rw [e]; exact hp
theorem md_cn_z {p : Nat → Bool} : ∀ n, (∀ j, j < n → ¬ p j = true) → md_cn p n = 0 := by
  intro n
  induction n with
  | zero => intro _; rfl
  | succ n ih =>
    intro h
    unfold md_cn
    rw [if_neg (h n (by omega))]
    exact ih (fun j hj => h j (by omega))
theorem md_cn_1 {p : Nat → Bool} (f : Nat → Int32) : ∀ n, md_cn p n = 1 → ∃ i, i < n ∧ p i = true ∧ (∀ j, j < n → p j = true → j = i) ∧ md_ls f p n = f i := by
  intro n
  induction n with
  | zero => intro h; exact absurd (show (0 : Nat) = 1 from h) (by decide)
  | succ n ih =>
    intro h
    unfold md_cn at h
    unfold md_ls
    by_cases hp : p n = true
    · rw [if_pos hp] at h ⊢
      have z := md_cn_0 (p := p) n (by omega)
      refine ⟨n, by omega, hp, fun j hj hq => ?_, rfl⟩
      rcases Nat.lt_or_ge j n with g | g
      · exact absurd hq (z j g)
      · omega
    · rw [if_neg hp] at h ⊢
      obtain ⟨i, h1, h2, h3, h4⟩ := ih h
      refine ⟨i, by omega, h2, fun j hj hq => ?_, h4⟩
      rcases Nat.lt_or_ge j n with g | g
      · exact h3 j g hq
      · have e : j = n := by omega
        rw [e] at hq
        exact absurd hq hp
theorem md_cn_u {p : Nat → Bool} {i : Nat} (hp : p i = true) : ∀ n, i < n → (∀ j, j < n → p j = true → j = i) → md_cn p n = 1 := by
  intro n
  induction n with
  | zero => intro h; omega
  | succ n ih =>
    intro hi hu
    unfold md_cn
    by_cases hq : p n = true
    · have e := hu n (by omega) hq
      rw [if_pos hq, md_cn_z n (fun j hj hj2 => by have := hu j (by omega) hj2; omega)]
    · rw [if_neg hq]
      refine ih ?_ (fun j hj => hu j (by omega))
      rcases Nat.lt_or_ge i n with g | g
      · exact g
      · have e : i = n := by omega
        rw [e] at hp
        exact absurd hp hq
theorem md_an_0 {p : Nat → Bool} : ∀ n, md_an p n = 0 ↔ ∀ j, j < n → ¬ p j = true := by
  intro n
  induction n with
  | zero => exact ⟨fun _ j hj => by omega, fun _ => rfl⟩
  | succ n ih =>
    unfold md_an
    by_cases h : p n = true
    · rw [if_pos h]
      exact ⟨fun z => absurd z (by decide), fun z => absurd h (z n (by omega))⟩
    · rw [if_neg h, ih]
      refine ⟨fun z j hj => ?_, fun z j hj => z j (by omega)⟩
      rcases Nat.lt_or_ge j n with g | g
      · exact z j g
      · have e : j = n := by omega
        rw [e]; exact h
/-- one-one between methods and types: the counts are one together, and the last is the same -/
theorem md_bij {p q : Nat → Bool} {O : Nat → Nat} {f : Nat → Int32} {M N : Nat} (hpq : ∀ i, i < M → p i = true → O i < N ∧ q (O i) = true ∧ f (O i) = nI i) (hqp : ∀ t, t < N → q t = true → ∃ i, i < M ∧ p i = true ∧ O i = t) (hM : M ≤ 8) : (md_cn p M = 1 ↔ md_cn q N = 1) ∧ (md_cn p M = 1 → md_ls nI p M = md_ls f q N) := by
  have inj : ∀ i, i < M → ∀ i', i' < M → p i = true → p i' = true → O i = O i' → i = i' := by
    intro i hi i' hi' h h' e
    have a := (hpq i hi h).2.2
    have b := (hpq i' hi' h').2.2
    rw [e, b] at a
    exact ((nI_eq (by omega) (by omega)).mp a).symm
  have key : md_cn p M = 1 → md_cn q N = 1 := by
    intro h
    obtain ⟨i, h1, h2, h3, _⟩ := md_cn_1 nI M h
    obtain ⟨g1, g2, _⟩ := hpq i h1 h2
    refine md_cn_u g2 N g1 (fun t ht hq => ?_)
    obtain ⟨i', k1, k2, k3⟩ := hqp t ht hq
    rw [← k3, h3 i' k1 k2]
  refine ⟨⟨key, fun h => ?_⟩, fun h => ?_⟩
  · obtain ⟨t, h1, h2, h3, _⟩ := md_cn_1 f N h
    obtain ⟨i, k1, k2, k3⟩ := hqp t h1 h2
    refine md_cn_u k2 M k1 (fun j hj hp => ?_)
    obtain ⟨g1, g2, _⟩ := hpq j hj hp
    exact inj j hj i k1 hp k2 ((h3 _ g1 g2).trans k3.symm)
  · obtain ⟨i, h1, h2, h3, h4⟩ := md_cn_1 nI M h
    obtain ⟨t, g1, g2, g3, g4⟩ := md_cn_1 f N (key h)
    obtain ⟨k1, k2, k3⟩ := hpq i h1 h2
    rw [h4, g4, ← g3 _ k1 k2, k3]
end
section
/-! X's and Y's scans: findDecl / declared, candIn, isCand -/
section
variable {tc mc st : Int32} {sp fi dc di mk wa ow nm ds fl sg so oz : Nat → Int32} {up : Nat → Int64} {T M : Nat} {S D E K O : Nat → Nat} {o n d : Int32}
theorem md_xfd3 (hM : M ≤ 8) (post : Int32 → Prop) : ∀ k i, i + k = M → post (md_fd ow nm ds o n d k i) → wX_findDecl_3 post o n d tc (nI M) st sp fi dc di mk wa ow nm ds fl sg (k + 1) (nI i) := by
  intro k
  induction k with
  | zero =>
    intro i hi h
    exact br_t (nI_le (by omega) (by omega)) h
  | succ k ih =>
    intro i hi h
    have hlt : ¬ nI M ≤ nI i := nI_ge (by omega) (by omega)
    have hin : vp_in (nI i) 8 := vp_in_nI (by omega) (by omega)
    have ec : (nI i).toNatClampNeg = i := nI_clamp (by omega)
    unfold md_fd at h
    refine br_f hlt ⟨hin, ?_⟩
    by_cases h1 : ow (nI i).toNatClampNeg = o
    · refine br_t h1 ⟨hin, ?_⟩
      by_cases h2 : nm (nI i).toNatClampNeg = n
      · refine br_t h2 ⟨hin, ?_⟩
        by_cases h3 : ds (nI i).toNatClampNeg = d
        · refine br_t h3 ?_
          rw [ec] at h1 h2 h3
          rw [if_pos ⟨h1, h2, h3⟩] at h
          exact h
        · refine br_f h3 (nm_r (nI_1 i) (ih (i + 1) (by omega) ?_))
          rw [ec] at h3
          rw [if_neg (fun z => h3 z.2.2)] at h
          exact h
      · refine br_f h2 (nm_r (nI_1 i) (ih (i + 1) (by omega) ?_))
        rw [ec] at h2
        rw [if_neg (fun z => h2 z.2.1)] at h
        exact h
    · refine br_f h1 (nm_r (nI_1 i) (ih (i + 1) (by omega) ?_))
      rw [ec] at h1
      rw [if_neg (fun z => h1 z.1)] at h
      exact h
theorem md_yfd3 (hM : M ≤ 8) (post : Int32 → Prop) : ∀ k i, i + k = M → post (md_fd ow nm ds o n d k i) → wY_declared_3 post o n d tc (nI M) st so dc ow fi sg di fl nm ds oz up (k + 1) (nI i) := by
  intro k
  induction k with
  | zero =>
    intro i hi h
    exact br_t (nI_le (by omega) (by omega)) h
  | succ k ih =>
    intro i hi h
    have hlt : ¬ nI M ≤ nI i := nI_ge (by omega) (by omega)
    have hin : vp_in (nI i) 8 := vp_in_nI (by omega) (by omega)
    have ec : (nI i).toNatClampNeg = i := nI_clamp (by omega)
    unfold md_fd at h
    refine br_f hlt ⟨hin, ?_⟩
    by_cases h1 : ow (nI i).toNatClampNeg = o
    · refine br_t h1 ⟨hin, ?_⟩
      by_cases h2 : nm (nI i).toNatClampNeg = n
      · refine br_t h2 ⟨hin, ?_⟩
        by_cases h3 : ds (nI i).toNatClampNeg = d
        · refine br_t h3 ?_
          rw [ec] at h1 h2 h3
          rw [if_pos ⟨h1, h2, h3⟩] at h
          exact h
        · refine br_f h3 (nm_r (nI_1 i) (ih (i + 1) (by omega) ?_))
          rw [ec] at h3
          rw [if_neg (fun z => h3 z.2.2)] at h
          exact h
      · refine br_f h2 (nm_r (nI_1 i) (ih (i + 1) (by omega) ?_))
        rw [ec] at h2
        rw [if_neg (fun z => h2 z.2.1)] at h
        exact h
    · refine br_f h1 (nm_r (nI_1 i) (ih (i + 1) (by omega) ?_))
      rw [ec] at h1
      rw [if_neg (fun z => h1 z.1)] at h
      exact h
theorem md_xfd (hM : M ≤ 8) (post : Int32 → Prop) (h : post (md_fd ow nm ds o n d M 0)) : wpX_findDecl post (tc, nI M, st, sp, fi, dc, di, mk, wa, ow, nm, ds, fl, sg) o n d := ⟨M + 1, md_xfd3 hM post M 0 (Nat.zero_add M) h⟩
theorem md_yfd (hM : M ≤ 8) (post : Int32 → Prop) (h : post (md_fd ow nm ds o n d M 0)) : wpY_declared post (tc, nI M, st, so, dc, ow, fi, sg, di, fl, nm, ds, oz, up) o n d := ⟨M + 1, md_yfd3 hM post M 0 (Nat.zero_add M) h⟩
theorem md_xcand (hM : M ≤ 8) (post : Int32 → Prop) (h : post (md_ca fl (md_fd ow nm ds o n d M 0))) : wpX_candIn post (tc, nI M, st, sp, fi, dc, di, mk, wa, ow, nm, ds, fl, sg) o n d := by
  unfold wpX_candIn
  dsimp only
  refine md_xfd hM _ ?_
  have hV : md_V (md_fd ow nm ds o n d M 0) := md_fd_V hM
  revert h hV
  generalize md_fd ow nm ds o n d M 0 = r
  intro h hV
  unfold md_ca at h
  by_cases h1 : r < 0
  · rw [if_pos h1] at h
    exact br_t h1 h
  · rw [if_neg h1] at h
    refine br_f h1 ?_
    obtain ⟨i, hi, rfl⟩ := md_Vp hV h1
    refine ⟨vp_in_nI hi (by omega), ?_⟩
    by_cases h2 : fl (nI i).toNatClampNeg &&& 10 = 0
    · rw [if_pos h2] at h
      exact br_t h2 h
    · rw [if_neg h2] at h
      exact br_f h2 h
/-- method i is a candidate for the mask m -/
def md_C (m : Nat) (O : Nat → Nat) (nm ds fl : Nat → Int32) (n d : Int32) (i : Nat) : Prop := m.testBit (O i) = true ∧ md_N nm ds fl n d i
theorem md_xisC {m i : Nat} (hi : i < 8) (hm : m < 64) (ho : O i < 6) (post : Int32 → Prop) (h1 : md_C m O nm ds fl n d i → post 1) (h0 : ¬ md_C m O nm ds fl n d i → post 0) : wpX_isCand post (tc, mc, st, sp, fi, dc, di, mk, wa, md_a O, nm, ds, fl, sg) (nI i) (nI m) n d := by
  have hin : vp_in (nI i) 8 := vp_in_nI hi (by omega)
  have ec : (nI i).toNatClampNeg = i := nI_clamp (by omega)
  have eb : (((nI m) >>> (md_a O (nI i).toNatClampNeg &&& 31)) &&& 1) = 0 ↔ m.testBit (O i) = false := by
    rw [md_at (by omega)]
    exact md_bit m hm _ ho
  refine ⟨hin, ek_if eb (fun z => h0 (fun w => ?_)) (fun z => ⟨hin, ?_⟩)⟩
  · have := w.1
    rw [z] at this
    exact absurd this (by decide)
  · have zt : m.testBit (O i) = true := by
      cases hh : m.testBit (O i)
      · exact absurd hh z
      · rfl
    by_cases h2 : nm (nI i).toNatClampNeg = n
    · refine br_t h2 ⟨hin, ?_⟩
      by_cases h3 : ds (nI i).toNatClampNeg = d
      · refine br_t h3 ⟨hin, ?_⟩
        by_cases h4 : fl (nI i).toNatClampNeg &&& 10 = 0
        · refine br_t h4 (h1 ?_)
          rw [ec] at h2 h3 h4
          exact ⟨zt, h2, h3, h4⟩
        · refine br_f h4 (h0 (fun w => h4 ?_))
          rw [ec]; exact w.2.2.2
      · refine br_f h3 (h0 (fun w => h3 ?_))
        rw [ec]; exact w.2.2.1
    · refine br_f h2 (h0 (fun w => h2 ?_))
      rw [ec]; exact w.2.1
end
end
section
/-! X's walk: the table filled by rising id -/
def md_gx (ca w : Nat → Int32) (a : Int32) (j : Nat) : Int32 := if ca j < 0 then (if w j < 0 then a else w j) else ca j
def md_ix (E : Nat → Nat) (ca w : Nat → Int32) (b : Nat) : Nat → Nat → Int32 → Int32
  | 0, _, a => a
  | r + 1, k, a => if 0 ≤ a then a else md_ix E ca w b r (k + 1) (md_gx ca w a (E (b + k)))
def md_nx (S : Nat → Nat) (fi w : Nat → Int32) (t : Nat) (a : Int32) : Int32 := if 0 ≤ a then a else if t = 0 then a else if fi t = 0 then w (S t) else a
def md_sx (S D E : Nat → Nat) (fi ca w : Nat → Int32) (t : Nat) : Int32 := md_nx S fi w t (md_ix E ca w (t * 3) (D t) 0 (-1))
def md_wx (S D E : Nat → Nat) (fi ca : Nat → Int32) : Nat → Nat → (Nat → Int32) → (Nat → Int32)
  | 0, _, w => w
  | r + 1, t, w => md_wx S D E fi ca r (t + 1) (upd w t (md_sx S D E fi ca w t))
theorem md_ix_p {E : Nat → Nat} {ca w : Nat → Int32} {b : Nat} {a : Int32} (h : 0 ≤ a) : ∀ r k, md_ix E ca w b r k a = a := by
  intro r k
  cases r with
  | zero => rfl
  | succ r => unfold md_ix; rw [if_pos h]
section
variable {tc mc st : Int32} {sp fi dc di mk wa ow nm ds fl sg so oz : Nat → Int32} {up : Nat → Int64} {T M : Nat} {S D E K O : Nat → Nat} {o n d : Int32}
theorem md_x24 {t Dt : Nat} {x1 : Int32} (post : Int32 → SX → Prop) (J : Int32 → (Nat → Int32) → (Nat → Int32) → (Nat → Int32) → (Nat → Int32) → (Nat → Int32) → (Nat → Int32) → (Nat → Int32) → (Nat → Int32) → (Nat → Int32) → (Nat → Int32) → (Nat → Int32) → Prop) (hM : M ≤ 8) (ht : t < 6) (hD : Dt ≤ 3) (hE : ∀ k, k < Dt → E (t * 3 + k) < 6) : ∀ r k a, k + r = Dt → wX_walk_97 post J x1 n d (nI t) (md_ix E (md_cj M ow nm ds fl n d) wa (t * 3) r k a) tc (nI M) st sp fi dc (md_a E) mk wa ow nm ds fl sg → wX_walk_24 post J x1 n d (nI t) (nI Dt) tc (nI M) st sp fi dc (md_a E) mk wa ow nm ds fl sg (r + 1) a (nI k) := by
  intro r
  induction r with
  | zero =>
    intro k a hk h
    exact br_t (nI_le (by omega) (by omega)) h
  | succ r ih =>
    intro k a hk h
    have hlt : ¬ nI Dt ≤ nI k := nI_ge (by omega) (by omega)
    unfold md_ix at h
    refine br_f hlt ?_
    by_cases ha : 0 ≤ a
    · rw [if_pos ha] at h
      exact br_t ha h
    · rw [if_neg ha] at h
      have ej : nI t * 3 + nI k = nI (t * 3 + k) := by
        rw [show nI t * 3 = nI (t * 3) from pk_mul t 3, nI_add]
      have hj := hE k (by omega)
      refine br_f ha ⟨?_, ?_⟩
      · rw [ej]; exact vp_in_nI (by omega) (by omega)
      · refine nm_r (e' := nI (E (t * 3 + k))) (by rw [ej]; exact md_at (by omega)) ?_
        generalize E (t * 3 + k) = j at h hj
        refine md_xcand hM _ ?_
        have hc0 : md_ca fl (md_fd ow nm ds (nI j) n d M 0) = md_cj M ow nm ds fl n d j := rfl
        rw [hc0]
        unfold md_gx at h
        have hin : vp_in (nI j) 6 := vp_in_nI hj (by omega)
        have ec : (nI j).toNatClampNeg = j := nI_clamp (by omega)
        by_cases hc : md_cj M ow nm ds fl n d j < 0
        · rw [if_pos hc] at h
          refine br_t hc ⟨hin, ?_⟩
          by_cases hw : wa (nI j).toNatClampNeg < 0
          · refine br_t hw (nm_r (nI_1 k) (ih (k + 1) a (by omega) ?_))
            rw [ec] at hw
            rw [if_pos hw] at h
            exact h
          · refine br_f hw ⟨hin, nm_r (e' := wa j) (by rw [ec]) (nm_r (nI_1 k) (ih (k + 1) (wa j) (by omega) ?_))⟩
            rw [ec] at hw
            rw [if_neg hw] at h
            exact h
        · rw [if_neg hc] at h
          exact br_f hc (nm_r (nI_1 k) (ih (k + 1) _ (by omega) h))
theorem md_x97 {t : Nat} {x1 a : Int32} (post : Int32 → SX → Prop) (J : Int32 → (Nat → Int32) → (Nat → Int32) → (Nat → Int32) → (Nat → Int32) → (Nat → Int32) → (Nat → Int32) → (Nat → Int32) → (Nat → Int32) → (Nat → Int32) → (Nat → Int32) → (Nat → Int32) → Prop) (ht : t < 6) (hS : S t < 6) (h : J (nI (t + 1)) (md_a S) fi dc di mk (upd wa t (md_nx S fi wa t a)) ow nm ds fl sg) : wX_walk_97 post J x1 n d (nI t) a tc mc st (md_a S) fi dc di mk wa ow nm ds fl sg := by
  have hin : vp_in (nI t) 6 := vp_in_nI ht (by omega)
  have ec : (nI t).toNatClampNeg = t := nI_clamp (by omega)
  unfold md_nx at h
  by_cases ha : 0 ≤ a
  · rw [if_pos ha] at h
    exact br_t ha ⟨hin, nm_r (e' := upd wa t a) (by rw [ec]) (nm_r (nI_1 t) h)⟩
  · rw [if_neg ha] at h
    refine br_f ha ?_
    by_cases h0 : t = 0
    · rw [if_pos h0] at h
      have hz : nI t = 0 := by rw [h0]; exact nI_0
      exact br_t hz ⟨hin, nm_r (e' := upd wa t a) (by rw [ec]) (nm_r (nI_1 t) h)⟩
    · rw [if_neg h0] at h
      have hz : ¬ nI t = 0 := nI_ne0 (by omega) (by omega)
      refine br_f hz ⟨hin, ?_⟩
      by_cases hf : fi (nI t).toNatClampNeg = 0
      · refine br_t hf ⟨hin, ?_, ?_⟩
        · rw [md_at (by omega)]; exact vp_in_nI hS (by omega)
        · refine nm_r (e' := wa (S t)) (by rw [md_at (by omega), nI_clamp (by omega)]) ⟨hin, nm_r (e' := upd wa t (wa (S t))) (by rw [ec]) (nm_r (nI_1 t) ?_)⟩
          rw [ec] at hf
          rw [if_pos hf] at h
          exact h
      · refine br_f hf ⟨hin, nm_r (e' := upd wa t a) (by rw [ec]) (nm_r (nI_1 t) ?_)⟩
        rw [ec] at hf
        rw [if_neg hf] at h
        exact h
theorem md_x3 {c : Nat} (post : Int32 → SX → Prop) (hM : M ≤ 8) (hc : c < 6) (hS : ∀ t, t ≤ c → S t < 6) (hD : ∀ t, t ≤ c → D t ≤ 3) (hE : ∀ t, t ≤ c → ∀ k, k < D t → E (t * 3 + k) < 6) : ∀ r t (w : Nat → Int32), t + r = c + 1 → post (md_wx S D E fi (md_cj M ow nm ds fl n d) r t w c) (tc, nI M, st, md_a S, fi, md_a D, md_a E, mk, md_wx S D E fi (md_cj M ow nm ds fl n d) r t w, ow, nm, ds, fl, sg) → wX_walk_3 post (nI c) n d tc (nI M) st (r + 1) (nI t) (md_a S) fi (md_a D) (md_a E) mk w ow nm ds fl sg := by
  intro r
  induction r with
  | zero =>
    intro t w ht h
    refine br_t (nI_lt (by omega) (by omega)) ⟨vp_in_nI hc (by omega), ?_⟩
    rw [nI_clamp (by omega)]
    exact h
  | succ r ih =>
    intro t w ht h
    have hlt : ¬ nI c < nI t := nI_nlt (by omega) (by omega)
    refine br_f hlt ⟨vp_in_nI (by omega) (by omega), nm_r (e' := nI (D t)) (md_at (by omega)) ⟨D t + 1, ?_⟩⟩
    refine md_x24 post _ hM (by omega) (hD t (by omega)) (hE t (by omega)) (D t) 0 (-1) (by omega) ?_
    refine md_x97 post _ (by omega) (hS t (by omega)) ?_
    exact ih (t + 1) _ (by omega) h
theorem md_xwalk {c : Nat} (post : Int32 → SX → Prop) (hM : M ≤ 8) (hc : c < 6) (hS : ∀ t, t ≤ c → S t < 6) (hD : ∀ t, t ≤ c → D t ≤ 3) (hE : ∀ t, t ≤ c → ∀ k, k < D t → E (t * 3 + k) < 6) (h : post (md_wx S D E fi (md_cj M ow nm ds fl n d) (c + 1) 0 wa c) (tc, nI M, st, md_a S, fi, md_a D, md_a E, mk, md_wx S D E fi (md_cj M ow nm ds fl n d) (c + 1) 0 wa, ow, nm, ds, fl, sg)) : wpX_walk post (tc, nI M, st, md_a S, fi, md_a D, md_a E, mk, wa, ow, nm, ds, fl, sg) (nI c) n d := ⟨c + 1 + 1, md_x3 post hM hc hS hD hE (c + 1) 0 wa (by omega) h⟩
end
end
section
/-! X's viaSuper -/
/-- method j shows that method i is not maximal -/
def md_Q (m : Nat) (K O : Nat → Nat) (nm ds fl : Nat → Int32) (n d : Int32) (i j : Nat) : Prop := j ≠ i ∧ md_C m O nm ds fl n d j ∧ (K (O j)).testBit (O i) = true
def md_P (M m : Nat) (K O : Nat → Nat) (nm ds fl : Nat → Int32) (n d : Int32) (i : Nat) : Prop := md_C m O nm ds fl n d i ∧ (∀ j, j < M → ¬ md_Q m K O nm ds fl n d i j) ∧ fl i &&& 1024 = 0
section
variable {tc mc st : Int32} {sp fi dc di mk wa ow nm ds fl sg so oz : Nat → Int32} {up : Nat → Int64} {T M : Nat} {S D E K O : Nat → Nat} {o n d : Int32}
theorem md_x51 {i m : Nat} {x1 x4 x5 x6 x8 x9 x10 : Int32} (post : Int32 → SX → Prop) (J : Int32 → Int32 → Int32 → Int32 → Prop) (hM : M ≤ 8) (hi : i < M) (hm : m < 64) (hO : ∀ j, j < M → O j < 6) (hK : ∀ j, j < M → K (O j) < 64) : ∀ k j (b : Int32), j + k = M → ((¬ b = 0 ∧ (∀ j', j ≤ j' → j' < M → ¬ md_Q m K O nm ds fl n d i j') ∧ fl i &&& 1024 = 0) → J (nI i) (x9 + 1) x10 (nI (i + 1))) → (¬ (¬ b = 0 ∧ (∀ j', j ≤ j' → j' < M → ¬ md_Q m K O nm ds fl n d i j') ∧ fl i &&& 1024 = 0) → J x8 x9 x10 (nI (i + 1))) → wX_viaSuper_51 post J x1 n d x4 x5 x6 (nI m) x8 x9 x10 (nI i) tc (nI M) st sp fi dc di (md_a K) wa (md_a O) nm ds fl sg (k + 1) b (nI j) := by
  have hii : vp_in (nI i) 8 := vp_in_nI (by omega) (by omega)
  have ei : (nI i).toNatClampNeg = i := nI_clamp (by omega)
  intro k
  induction k with
  | zero =>
    intro j b hj ht hf
    refine br_t (nI_le (by omega) (by omega)) ?_
    by_cases hb : b = 0
    · exact br_t hb (nm_r (nI_1 i) (hf (fun z => z.1 hb)))
    · refine br_f hb ⟨hii, ?_⟩
      by_cases hfl : fl (nI i).toNatClampNeg &&& 1024 = 0
      · refine br_t hfl (nm_e (nm_r (nI_1 i) (ht ⟨hb, fun j' h1 h2 => absurd h2 (by omega), ?_⟩)))
        rw [ei] at hfl
        exact hfl
      · refine br_f hfl (nm_r (nI_1 i) (hf (fun z => hfl ?_)))
        rw [ei]
        exact z.2.2
  | succ k ih =>
    intro j b hj ht hf
    have hlt : ¬ nI M ≤ nI j := nI_ge (by omega) (by omega)
    have hjj : vp_in (nI j) 8 := vp_in_nI (by omega) (by omega)
    -- a step that changes nothing
    have same : ¬ md_Q m K O nm ds fl n d i j → wX_viaSuper_51 post J x1 n d x4 x5 x6 (nI m) x8 x9 x10 (nI i) tc (nI M) st sp fi dc di (md_a K) wa (md_a O) nm ds fl sg (k + 1) b (nI (j + 1)) := by
      intro hq
      refine ih (j + 1) b (by omega) (fun z => ht ⟨z.1, fun j' h1 h2 => ?_, z.2.2⟩) (fun z => hf (fun y => z ⟨y.1, fun j' h1 h2 => y.2.1 j' (by omega) h2, y.2.2⟩))
      rcases Nat.lt_or_ge j j' with g | g
      · exact z.2.1 j' (by omega) h2
      · have e : j' = j := by omega
        rw [e]; exact hq
    refine br_f hlt ?_
    by_cases hji : nI j = nI i
    · have e : j = i := (nI_eq (by omega) (by omega)).mp hji
      exact br_t hji (nm_r (nI_1 j) (same (fun z => z.1 e)))
    · have hne : j ≠ i := fun e => hji (by rw [e])
      refine br_f hji ?_
      refine md_xisC (by omega) hm (hO j (by omega)) _ (fun hC => ?_) (fun hC => ?_)
      · have hoj := hO j (by omega)
        have hoi := hO i hi
        have eb : ((((md_a K (md_a O (nI j).toNatClampNeg).toNatClampNeg) >>> (md_a O (nI i).toNatClampNeg &&& 31)) &&& 1) = 0) ↔ (K (O j)).testBit (O i) = false := by
          rw [md_at (f := O) (k := j) (by omega), md_at (f := O) (k := i) (by omega), md_at (by omega)]
          exact md_bit _ (hK j (by omega)) _ hoi
        refine br_f (by decide) ⟨hjj, ?_, hii, ek_if eb (fun z => nm_r (nI_1 j) (same (fun w => ?_))) (fun z => nm_r (nI_1 j) (ih (j + 1) 0 (by omega) (fun w => absurd rfl w.1) (fun _ => hf (fun y => ?_))))⟩
        · rw [md_at (by omega)]; exact vp_in_nI hoj (by omega)
        · have := w.2.2
          rw [z] at this
          exact absurd this (by decide)
        · refine y.2.1 j (Nat.le_refl _) (by omega) ⟨hne, hC, ?_⟩
          cases hh : (K (O j)).testBit (O i)
          · exact absurd hh z
          · rfl
      · exact br_t rfl (nm_r (nI_1 j) (same (fun w => hC w.2.1)))
theorem md_x20 {c m : Nat} {x4 x5 x6 : Int32} {p q : Nat → Bool} (post : Int32 → SX → Prop) (hM : M ≤ 8) (hc : c < 6) (hm : m < 64) (hO : ∀ j, j < M → O j < 6) (hK : ∀ j, j < M → K (O j) < 64) (hS : ∀ t, t ≤ c → S t < 6) (hD : ∀ t, t ≤ c → D t ≤ 3) (hE : ∀ t, t ≤ c → ∀ k, k < D t → E (t * 3 + k) < 6) (hp : ∀ i, p i = true ↔ md_P M m K O nm ds fl n d i) (hq : ∀ i, q i = true ↔ md_C m O nm ds fl n d i)
    (h1 : md_cn p M = 1 → post (md_ls nI p M) (tc, nI M, x4, md_a S, fi, md_a D, md_a E, md_a K, wa, md_a O, nm, ds, fl, sg))
    (h2 : ¬ md_cn p M = 1 → md_an q M = 0 → post (-2) (tc, nI M, x6, md_a S, fi, md_a D, md_a E, md_a K, wa, md_a O, nm, ds, fl, sg))
    (h3 : ¬ md_cn p M = 1 → ¬ md_an q M = 0 → post (md_wx S D E fi (md_cj M (md_a O) nm ds fl n d) (c + 1) 0 wa c) (tc, nI M, x5, md_a S, fi, md_a D, md_a E, md_a K, md_wx S D E fi (md_cj M (md_a O) nm ds fl n d) (c + 1) 0 wa, md_a O, nm, ds, fl, sg)) : ∀ k i, i + k = M → wX_viaSuper_20 post (nI c) n d x4 x5 x6 (nI m) tc (nI M) st (md_a S) fi (md_a D) (md_a E) (md_a K) wa (md_a O) nm ds fl sg (k + 1) (md_ls nI p i) (nI (md_cn p i)) (md_an q i) (nI i) := by
  intro k
  induction k with
  | zero =>
    intro i hi
    have e : i = M := by omega
    subst e
    refine br_t (nI_le (by omega) (by omega)) ?_
    have hcn : md_cn p i ≤ i := md_cn_le i
    by_cases hn : md_cn p i = 1
    · exact br_t (by rw [hn]; rfl) (h1 hn)
    · have hn' : ¬ nI (md_cn p i) = 1 := fun z => hn ((nI_eq (b := 1) (by omega) (by decide)).mp z)
      refine br_f hn' ?_
      by_cases ha : md_an q i = 0
      · exact br_t ha (h2 hn ha)
      · refine br_f ha ?_
        refine md_xwalk _ hM hc hS hD hE ?_
        exact h3 hn ha
  | succ k ih =>
    intro i hi
    have hlt : ¬ nI M ≤ nI i := nI_ge (by omega) (by omega)
    have hi2 := ih (i + 1) (by omega)
    refine br_f hlt ?_
    refine md_xisC (by omega) hm (hO i (by omega)) _ (fun hC => ?_) (fun hC => ?_)
    · refine br_f (by decide) ⟨M + 1, ?_⟩
      have ea : md_an q (i + 1) = 1 := by unfold md_an; rw [if_pos ((hq i).mpr hC)]
      refine md_x51 post _ hM (by omega) hm hO hK M 0 1 (by omega) (fun z => ?_) (fun z => ?_)
      · have hpi : p i = true := (hp i).mpr ⟨hC, fun j hj => z.2.1 j (Nat.zero_le _) hj, z.2.2⟩
        have el : md_ls nI p (i + 1) = nI i := by unfold md_ls; rw [if_pos hpi]
        have en : md_cn p (i + 1) = md_cn p i + 1 := by rw [md_cn, if_pos hpi]
        rw [el, en, ea, ← nI_1 (md_cn p i)] at hi2
        exact hi2
      · have hpi : ¬ p i = true := fun w => z ⟨by decide, fun j _ hj => ((hp i).mp w).2.1 j hj, ((hp i).mp w).2.2⟩
        have el : md_ls nI p (i + 1) = md_ls nI p i := by rw [md_ls, if_neg hpi]
        have en : md_cn p (i + 1) = md_cn p i := by rw [md_cn, if_neg hpi]
        rw [el, en, ea] at hi2
        exact hi2
    · have hpi : ¬ p i = true := fun w => hC ((hp i).mp w).1
      have hqi : ¬ q i = true := fun w => hC ((hq i).mp w)
      have el : md_ls nI p (i + 1) = md_ls nI p i := by rw [md_ls, if_neg hpi]
      have en : md_cn p (i + 1) = md_cn p i := by rw [md_cn, if_neg hpi]
      have ea : md_an q (i + 1) = md_an q i := by rw [md_an, if_neg hqi]
      rw [el, en, ea] at hi2
      exact br_t rfl (nm_r (nI_1 i) hi2)
end
end
section
/-! Y's inSupers -/
def md_iy (E : Nat → Nat) (w : Nat → Int32) (b : Nat) : Nat → Nat → Int32 → Int32
  | 0, _, a => a
  | r + 1, k, a => if 0 ≤ a then a else md_iy E w b r (k + 1) (w (E (b + k)))
def md_ny (S : Nat → Nat) (w : Nat → Int32) (t : Nat) (a : Int32) : Int32 := if 0 ≤ a then a else if t = 0 then a else w (S t)
def md_sy (S D E : Nat → Nat) (w : Nat → Int32) (t : Nat) : Int32 := md_ny S w t (md_iy E w (t * 3) (D t) 0 (w t))
def md_wy (S D E : Nat → Nat) : Nat → Nat → (Nat → Int32) → (Nat → Int32)
  | 0, _, w => w
  | r + 1, t, w => md_wy S D E r (t + 1) (upd w t (md_sy S D E w t))
theorem md_iy_p {E : Nat → Nat} {w : Nat → Int32} {b : Nat} {a : Int32} (h : 0 ≤ a) : ∀ r k, md_iy E w b r k a = a := by
  intro r k
  cases r with
  | zero => rfl
  | succ r => unfold md_iy; rw [if_pos h]
theorem md_iy_V {E : Nat → Nat} {w : Nat → Int32} {b : Nat} : ∀ r k a, md_V a → (∀ k', k ≤ k' → k' < k + r → md_V (w (E (b + k')))) → md_V (md_iy E w b r k a) := by
  intro r
  induction r with
  | zero => intro k a ha _; exact ha
  | succ r ih =>
    intro k a ha h
    unfold md_iy
    by_cases h0 : 0 ≤ a
    · rw [if_pos h0]; exact ha
    · rw [if_neg h0]
      exact ih (k + 1) _ (h k (Nat.le_refl _) (by omega)) (fun k' h1 h2 => h k' (by omega) (by omega))
theorem md_sy_V {S D E : Nat → Nat} {w : Nat → Int32} {c t : Nat} (ht : t ≤ c) (hS : ∀ t, 0 < t → t ≤ c → S t < t) (hE : ∀ t, t ≤ c → ∀ k, k < D t → E (t * 3 + k) < t) (hV : ∀ j, j ≤ c → md_V (w j)) : md_V (md_sy S D E w t) := by
  have hi : md_V (md_iy E w (t * 3) (D t) 0 (w t)) := md_iy_V (D t) 0 _ (hV t ht) (fun k _ hk => hV _ (by have := hE t ht k (by omega); omega))
  unfold md_sy md_ny
  by_cases h0 : 0 ≤ md_iy E w (t * 3) (D t) 0 (w t)
  · rw [if_pos h0]; exact hi
  · rw [if_neg h0]
    by_cases h1 : t = 0
    · rw [if_pos h1]; exact hi
    · rw [if_neg h1]
      exact hV _ (by have := hS t (by omega) ht; omega)
/-- the array w with g below i -/
def md_f (w g : Nat → Int32) (i : Nat) : Nat → Int32 := fun t => if t < i then g t else w t
theorem md_f0 {w g : Nat → Int32} : md_f w g 0 = w := by
  funext t
  exact if_neg (Nat.not_lt_zero t)
theorem md_fs {w g : Nat → Int32} {i : Nat} {x : Int32} (h : x = g i) : upd (md_f w g i) i x = md_f w g (i + 1) := by
  funext t
  unfold upd md_f
  by_cases e : t = i
  · rw [if_pos e, if_pos (by omega), h, e]
  · rw [if_neg e]
    by_cases l : t < i
    · rw [if_pos l, if_pos (by omega)]
    · rw [if_neg l, if_neg (by omega)]
theorem md_fl {w g : Nat → Int32} {i t : Nat} (h : t < i) : md_f w g i t = g t := if_pos h
def md_g (m : Nat) (ca : Nat → Int32) (t : Nat) : Int32 := if m.testBit t = true then ca t else -1
section
variable {tc mc st : Int32} {sp fi dc di mk wa ow nm ds fl sg so oz : Nat → Int32} {up : Nat → Int64} {T M : Nat} {S D E K O : Nat → Nat} {o n d : Int32}
theorem md_y60 {i : Nat} {x1 x4 x5 z : Int32} {g : Nat → Int32} (post : Int32 → SY → Prop) (J : Int32 → (Nat → Int32) → (Nat → Int32) → (Nat → Int32) → (Nat → Int32) → (Nat → Int32) → (Nat → Int32) → (Nat → Int32) → (Nat → Int32) → (Nat → Int32) → (Nat → Int32) → (Nat → Int64) → Prop) (hi : i < 6) (hz : md_V z) (e : z = g i) (h : J (nI (i + 1)) so dc ow fi sg di fl nm ds (md_f oz g (i + 1)) up) : wY_inSupers_60 post J x1 n d x4 x5 (nI i) z tc mc st so dc ow fi sg di fl nm ds (md_f oz g i) up := by
  unfold wY_inSupers_60
  refine ⟨vp_in_nI hi (by omega), nm_r (e' := md_f oz g (i + 1)) ?_ (nm_r (nI_1 i) h)⟩
  rw [md_Vs hz, nI_clamp (by omega)]
  exact md_fs e
theorem md_y37 {i : Nat} {x1 x4 x5 z : Int32} {g : Nat → Int32} (post : Int32 → SY → Prop) (J : Int32 → (Nat → Int32) → (Nat → Int32) → (Nat → Int32) → (Nat → Int32) → (Nat → Int32) → (Nat → Int32) → (Nat → Int32) → (Nat → Int32) → (Nat → Int32) → (Nat → Int32) → (Nat → Int64) → Prop) (hi : i < 6) (hz : md_V z) (e : md_ca fl z = g i) (h : J (nI (i + 1)) so dc ow fi sg di fl nm ds (md_f oz g (i + 1)) up) : wY_inSupers_37 post J x1 n d x4 x5 (nI i) z tc mc st so dc ow fi sg di fl nm ds (md_f oz g i) up := by
  unfold wY_inSupers_37
  unfold md_ca at e
  by_cases h1 : z < 0
  · rw [if_pos h1] at e
    have ez := md_Vn hz h1
    exact br_t h1 (md_y60 post J hi hz (ez.trans e) h)
  · rw [if_neg h1] at e
    obtain ⟨j, hj, rfl⟩ := md_Vp hz h1
    refine br_f h1 ⟨vp_in_nI hj (by omega), ?_⟩
    by_cases h2 : fl (nI j).toNatClampNeg &&& 10 = 0
    · rw [if_pos h2] at e
      exact br_t h2 (md_y60 post J hi hz e h)
    · rw [if_neg h2] at e
      exact br_f h2 (md_y60 post J hi (Or.inl rfl) e h)
theorem md_y3 {c : Nat} {x4 x5 : Int32} (post : Int32 → SY → Prop) (hM : M ≤ 8) (hc : c < 6) (hK : K c < 64) (h : ∃ n85, wY_inSupers_85 post (nI c) x4 x5 tc (nI M) st so dc ow fi sg di fl nm ds (md_f oz (md_g (K c) (md_cj M ow nm ds fl n d)) (c + 1)) (md_l K) n85 0 (-1) 0) : ∀ r i, i + r = c + 1 → wY_inSupers_3 post (nI c) n d x4 x5 tc (nI M) st (r + 1) (nI i) so dc ow fi sg di fl nm ds (md_f oz (md_g (K c) (md_cj M ow nm ds fl n d)) i) (md_l K) := by
  intro r
  induction r with
  | zero =>
    intro i hi
    have e : i = c + 1 := by omega
    subst e
    exact br_t (nI_lt (by omega) (by omega)) h
  | succ r ih =>
    intro i hi
    have hlt : ¬ nI c < nI i := nI_nlt (by omega) (by omega)
    have eb : ((((md_l K (nI c).toNatClampNeg).toUInt64 >>> ((nI i).toInt64.toUInt64 &&& Int64.toUInt64 63)).toInt64) &&& 1) = 0 ↔ (K c).testBit i = false := by
      rw [md_lt (by omega)]
      exact md_bitL _ hK _ (by omega)
    refine br_f hlt ⟨vp_in_nI hc (by omega), ek_if eb (fun z => ?_) (fun z => ?_)⟩
    · refine md_y37 post _ (by omega) (Or.inl rfl) ?_ (ih (i + 1) (by omega))
      unfold md_g
      rw [z]
      rfl
    · refine md_yfd hM _ ?_
      refine md_y37 post _ (by omega) (md_fd_V hM) ?_ (ih (i + 1) (by omega))
      unfold md_g
      rw [if_pos (by cases hh : (K c).testBit i; exact absurd hh z; rfl)]
      rfl
/-- type i is maximal and its candidate is not abstract -/
def md_R (c : Nat) (K : Nat → Nat) (oz fl : Nat → Int32) (i : Nat) : Prop := ¬ oz i < 0 ∧ (∀ j, j ≤ c → ¬ (¬ oz j < 0 ∧ (K j).testBit i = true)) ∧ fl (oz i).toNatClampNeg &&& 1024 = 0
theorem md_y111 {c i : Nat} {x4 x5 x6 x7 : Int32} (post : Int32 → SY → Prop) (J : Int32 → Int32 → Int32 → Prop) (hc : c < 6) (hi : i ≤ c) (hK : ∀ j, j ≤ c → K j < 64) (hV : ∀ j, j ≤ c → md_V (oz j)) : ∀ k j (b : Int32), j + k = c + 1 → (¬ b = 0 → ¬ oz i < 0) → ((¬ b = 0 ∧ (∀ j', j ≤ j' → j' ≤ c → ¬ (¬ oz j' < 0 ∧ (K j').testBit i = true)) ∧ fl (oz i).toNatClampNeg &&& 1024 = 0) → J (x6 + 1) (oz i) (nI (i + 1))) → (¬ (¬ b = 0 ∧ (∀ j', j ≤ j' → j' ≤ c → ¬ (¬ oz j' < 0 ∧ (K j').testBit i = true)) ∧ fl (oz i).toNatClampNeg &&& 1024 = 0) → J x6 x7 (nI (i + 1))) → wY_inSupers_111 post J (nI c) x4 x5 x6 x7 (nI i) tc mc st so dc ow fi sg di fl nm ds oz (md_l K) (k + 1) b (nI j) := by
  have hii : vp_in (nI i) 6 := vp_in_nI (by omega) (by omega)
  have ei : (nI i).toNatClampNeg = i := nI_clamp (by omega)
  intro k
  induction k with
  | zero =>
    intro j b hj ho ht hf
    refine br_t (nI_lt (by omega) (by omega)) ?_
    by_cases hb : b = 0
    · exact br_t hb (nm_r (nI_1 i) (hf (fun z => z.1 hb)))
    · refine br_f hb ⟨hii, ?_, ?_⟩
      · rw [ei]
        obtain ⟨q, hq, e⟩ := md_Vp (hV i hi) (ho hb)
        rw [e]
        exact vp_in_nI hq (by omega)
      · by_cases hfl : fl (oz (nI i).toNatClampNeg).toNatClampNeg &&& 1024 = 0
        · refine br_t hfl (nm_e ⟨hii, nm_r (e' := oz i) (by rw [ei]) (nm_r (nI_1 i) (ht ⟨hb, fun j' h1 h2 => absurd h2 (by omega), ?_⟩))⟩)
          rw [ei] at hfl
          exact hfl
        · refine br_f hfl (nm_r (nI_1 i) (hf (fun z => hfl ?_)))
          rw [ei]
          exact z.2.2
  | succ k ih =>
    intro j b hj ho ht hf
    have hlt : ¬ nI c < nI j := nI_nlt (by omega) (by omega)
    have hjj : vp_in (nI j) 6 := vp_in_nI (by omega) (by omega)
    have ej : (nI j).toNatClampNeg = j := nI_clamp (by omega)
    have same : ¬ (¬ oz j < 0 ∧ (K j).testBit i = true) → wY_inSupers_111 post J (nI c) x4 x5 x6 x7 (nI i) tc mc st so dc ow fi sg di fl nm ds oz (md_l K) (k + 1) b (nI (j + 1)) := by
      intro hq
      refine ih (j + 1) b (by omega) ho (fun z => ht ⟨z.1, fun j' h1 h2 => ?_, z.2.2⟩) (fun z => hf (fun y => z ⟨y.1, fun j' h1 h2 => y.2.1 j' (by omega) h2, y.2.2⟩))
      rcases Nat.lt_or_ge j j' with g | g
      · exact z.2.1 j' (by omega) h2
      · have e : j' = j := by omega
        rw [e]; exact hq
    refine br_f hlt ⟨hjj, ?_⟩
    by_cases h1 : oz (nI j).toNatClampNeg < 0
    · refine br_t h1 (nm_r (nI_1 j) (same (fun z => z.1 ?_)))
      rw [ej] at h1
      exact h1
    · have eb : ((((md_l K (nI j).toNatClampNeg).toUInt64 >>> ((nI i).toInt64.toUInt64 &&& Int64.toUInt64 63)).toInt64) &&& 1) = 0 ↔ (K j).testBit i = false := by
        rw [md_lt (by omega)]
        exact md_bitL _ (hK j (by omega)) _ (by omega)
      refine br_f h1 ⟨hjj, ek_if eb (fun z => nm_r (nI_1 j) (same (fun w => ?_))) (fun z => nm_r (nI_1 j) (ih (j + 1) 0 (by omega) (fun w => absurd rfl w) (fun w => absurd rfl w.1) (fun _ => hf (fun y => ?_))))⟩
      · have := w.2
        rw [z] at this
        exact absurd this (by decide)
      · refine y.2.1 j (Nat.le_refl _) (by omega) ⟨?_, ?_⟩
        · rw [ej] at h1
          exact h1
        · cases hh : (K j).testBit i
          · exact absurd hh z
          · rfl
theorem md_y231 {c t : Nat} {x4 x5 : Int32} (post : Int32 → SY → Prop) (J : Int32 → (Nat → Int32) → (Nat → Int32) → (Nat → Int32) → (Nat → Int32) → (Nat → Int32) → (Nat → Int32) → (Nat → Int32) → (Nat → Int32) → (Nat → Int32) → (Nat → Int32) → (Nat → Int64) → Prop) (ht : t < 6) (hD : D t ≤ 3) (hE : ∀ k, k < D t → E (t * 3 + k) < 6) : ∀ r k a, k + r = D t → wY_inSupers_273 post J (nI c) x4 x5 (nI t) (md_iy E oz (t * 3) r k a) tc mc st so (md_a D) ow fi sg (md_a E) fl nm ds oz up → wY_inSupers_231 post J (nI c) x4 x5 (nI t) tc mc st so (md_a D) ow fi sg (md_a E) fl nm ds oz up (r + 1) a (nI k) := by
  have htt : vp_in (nI t) 6 := vp_in_nI ht (by omega)
  have ed : md_a D (nI t).toNatClampNeg = nI (D t) := md_at (by omega)
  intro r
  induction r with
  | zero =>
    intro k a hk h
    by_cases ha : 0 ≤ a
    · exact br_t ha h
    · refine br_f ha ⟨htt, br_t ?_ h⟩
      rw [ed]; exact nI_le (by omega) (by omega)
  | succ r ih =>
    intro k a hk h
    unfold md_iy at h
    by_cases ha : 0 ≤ a
    · rw [if_pos ha] at h
      exact br_t ha h
    · rw [if_neg ha] at h
      have ej : nI t * 3 + nI k = nI (t * 3 + k) := by
        rw [show nI t * 3 = nI (t * 3) from pk_mul t 3, nI_add]
      have hj := hE k (by omega)
      have ee : md_a E (nI t * 3 + nI k).toNatClampNeg = nI (E (t * 3 + k)) := by rw [ej]; exact md_at (by omega)
      refine br_f ha ⟨htt, br_f ?_ ⟨?_, ?_, ?_⟩⟩
      · rw [ed]; exact nI_ge (by omega) (by omega)
      · rw [ej]; exact vp_in_nI (by omega) (by omega)
      · rw [ee]; exact vp_in_nI hj (by omega)
      · exact nm_r (e' := oz (E (t * 3 + k))) (by rw [ee, nI_clamp (by omega)]) (nm_r (nI_1 k) (ih (k + 1) _ (by omega) h))
theorem md_y297 {t : Nat} {x1 x4 x5 a : Int32} (post : Int32 → SY → Prop) (J : Int32 → (Nat → Int32) → (Nat → Int32) → (Nat → Int32) → (Nat → Int32) → (Nat → Int32) → (Nat → Int32) → (Nat → Int32) → (Nat → Int32) → (Nat → Int32) → (Nat → Int32) → (Nat → Int64) → Prop) (ht : t < 6) (ha : md_V a) (h : J (nI (t + 1)) so dc ow fi sg di fl nm ds (upd oz t a) up) : wY_inSupers_297 post J x1 x4 x5 (nI t) a tc mc st so dc ow fi sg di fl nm ds oz up := by
  unfold wY_inSupers_297
  refine ⟨vp_in_nI ht (by omega), nm_r (e' := upd oz t a) ?_ (nm_r (nI_1 t) h)⟩
  rw [md_Vs ha, nI_clamp (by omega)]
theorem md_y273 {t : Nat} {x1 x4 x5 a : Int32} (post : Int32 → SY → Prop) (J : Int32 → (Nat → Int32) → (Nat → Int32) → (Nat → Int32) → (Nat → Int32) → (Nat → Int32) → (Nat → Int32) → (Nat → Int32) → (Nat → Int32) → (Nat → Int32) → (Nat → Int32) → (Nat → Int64) → Prop) (ht : t < 6) (hS : S t < 6) (hV : md_V (md_ny S oz t a)) (h : J (nI (t + 1)) (upd (md_a S) 0 (-1)) dc ow fi sg di fl nm ds (upd oz t (md_ny S oz t a)) up) : wY_inSupers_273 post J x1 x4 x5 (nI t) a tc mc st (upd (md_a S) 0 (-1)) dc ow fi sg di fl nm ds oz up := by
  unfold wY_inSupers_273
  unfold md_ny at hV h
  by_cases h0 : 0 ≤ a
  · rw [if_pos h0] at hV h
    exact br_t h0 (md_y297 post J ht hV h)
  · rw [if_neg h0] at hV h
    refine br_f h0 ?_
    by_cases h1 : t = 0
    · rw [if_pos h1] at hV h
      have hz : nI t ≤ 0 := nI_le (b := 0) (by omega) (by decide)
      exact br_t hz (md_y297 post J ht hV h)
    · rw [if_neg h1] at hV h
      have es : upd (md_a S) 0 (-1) (nI t).toNatClampNeg = nI (S t) := md_s0 (by omega) (by omega)
      refine br_f (nI_nle (by omega) (by omega)) ⟨vp_in_nI ht (by omega), ?_, nm_r (e' := oz (S t)) ?_ (md_y297 post J ht hV h)⟩
      · rw [es]; exact vp_in_nI hS (by omega)
      · rw [es, nI_clamp (by omega)]
theorem md_y213 {c : Nat} {x4 x5 : Int32} (post : Int32 → SY → Prop) (hc : c < 6) (hS : ∀ t, 0 < t → t ≤ c → S t < t) (hS0 : S 0 = 0) (hD : ∀ t, t ≤ c → D t ≤ 3) (hE : ∀ t, t ≤ c → ∀ k, k < D t → E (t * 3 + k) < t) : ∀ r t (w : Nat → Int32), t + r = c + 1 → (∀ j, j ≤ c → md_V (w j)) → (md_wy S D E r t w c < 0 → post (-2) (tc, mc, x4 + x5 + x5, upd (md_a S) 0 (-1), md_a D, ow, fi, sg, md_a E, fl, nm, ds, md_wy S D E r t w, up)) → (¬ md_wy S D E r t w c < 0 → post (md_wy S D E r t w c) (tc, mc, x4 + x5, upd (md_a S) 0 (-1), md_a D, ow, fi, sg, md_a E, fl, nm, ds, md_wy S D E r t w, up)) → wY_inSupers_213 post (nI c) x4 x5 tc mc st (r + 1) (nI t) (upd (md_a S) 0 (-1)) (md_a D) ow fi sg (md_a E) fl nm ds w up := by
  intro r
  induction r with
  | zero =>
    intro t w ht hV h2 h1
    have hcc : vp_in (nI c) 6 := vp_in_nI hc (by omega)
    have ec : (nI c).toNatClampNeg = c := nI_clamp (by omega)
    refine br_t (nI_lt (by omega) (by omega)) (nm_e ⟨hcc, ?_⟩)
    by_cases h0 : w (nI c).toNatClampNeg < 0
    · refine br_t h0 (nm_e ?_)
      rw [ec] at h0
      exact h2 h0
    · refine br_f h0 ⟨hcc, ?_⟩
      rw [ec] at h0 ⊢
      exact h1 h0
  | succ r ih =>
    intro t w ht hV h2 h1
    have hlt : ¬ nI c < nI t := nI_nlt (by omega) (by omega)
    have hSt : S t < 6 := by
      rcases Nat.eq_zero_or_pos t with e | e
      · rw [e, hS0]; omega
      · have := hS t e (by omega); omega
    have hV1 : md_V (md_sy S D E w t) := md_sy_V (by omega) hS hE hV
    refine br_f hlt ⟨vp_in_nI (by omega) (by omega), nm_r (e' := w t) (by rw [nI_clamp (by omega)]) ⟨D t + 1, ?_⟩⟩
    refine md_y231 post _ (by omega) (hD t (by omega)) (fun k hk => by have := hE t (by omega) k hk; omega) (D t) 0 (w t) (by omega) ?_
    refine md_y273 post _ (by omega) hSt hV1 ?_
    refine ih (t + 1) (upd w t (md_sy S D E w t)) (by omega) (fun j hj => ?_) h2 h1
    by_cases e : j = t
    · rw [e, pk_us]; exact hV1
    · rw [pk_un e]; exact hV j hj
theorem md_y85 {c : Nat} {x4 x5 : Int32} {q : Nat → Bool} (post : Int32 → SY → Prop) (hc : c < 6) (hS : ∀ t, 0 < t → t ≤ c → S t < t) (hS0 : S 0 = 0) (hD : ∀ t, t ≤ c → D t ≤ 3) (hE : ∀ t, t ≤ c → ∀ k, k < D t → E (t * 3 + k) < t) (hK : ∀ j, j ≤ c → K j < 64) (hV : ∀ j, j ≤ c → md_V (oz j)) (hq : ∀ i, q i = true ↔ md_R c K oz fl i)
    (h1 : md_cn q (c + 1) = 1 → post (md_ls oz q (c + 1)) (tc, mc, x4, upd (md_a S) 0 (-1), md_a D, ow, fi, sg, md_a E, fl, nm, ds, oz, md_l K))
    (h2 : ¬ md_cn q (c + 1) = 1 → md_wy S D E (c + 1) 0 oz c < 0 → post (-2) (tc, mc, x4 + x5 + x5, upd (md_a S) 0 (-1), md_a D, ow, fi, sg, md_a E, fl, nm, ds, md_wy S D E (c + 1) 0 oz, md_l K))
    (h3 : ¬ md_cn q (c + 1) = 1 → ¬ md_wy S D E (c + 1) 0 oz c < 0 → post (md_wy S D E (c + 1) 0 oz c) (tc, mc, x4 + x5, upd (md_a S) 0 (-1), md_a D, ow, fi, sg, md_a E, fl, nm, ds, md_wy S D E (c + 1) 0 oz, md_l K)) : ∀ r i, i + r = c + 1 → wY_inSupers_85 post (nI c) x4 x5 tc mc st (upd (md_a S) 0 (-1)) (md_a D) ow fi sg (md_a E) fl nm ds oz (md_l K) (r + 1) (nI (md_cn q i)) (md_ls oz q i) (nI i) := by
  intro r
  induction r with
  | zero =>
    intro i hi
    have e : i = c + 1 := by omega
    subst e
    refine br_t (nI_lt (by omega) (by omega)) ?_
    have hcn : md_cn q (c + 1) ≤ c + 1 := md_cn_le (c + 1)
    by_cases hn : md_cn q (c + 1) = 1
    · exact br_t (by rw [hn]; rfl) (h1 hn)
    · have hn' : ¬ nI (md_cn q (c + 1)) = 1 := fun z => hn ((nI_eq (b := 1) (by omega) (by decide)).mp z)
      exact br_f hn' ⟨c + 1 + 1, md_y213 post hc hS hS0 hD hE (c + 1) 0 oz (by omega) hV (h2 hn) (h3 hn)⟩
  | succ r ih =>
    intro i hi
    have hlt : ¬ nI c < nI i := nI_nlt (by omega) (by omega)
    have hi2 := ih (i + 1) (by omega)
    have yes : q i = true → wY_inSupers_85 post (nI c) x4 x5 tc mc st (upd (md_a S) 0 (-1)) (md_a D) ow fi sg (md_a E) fl nm ds oz (md_l K) (r + 1) (nI (md_cn q i) + 1) (oz i) (nI (i + 1)) := by
      intro hpi
      have el : md_ls oz q (i + 1) = oz i := by rw [md_ls, if_pos hpi]
      have en : md_cn q (i + 1) = md_cn q i + 1 := by rw [md_cn, if_pos hpi]
      rw [el, en, ← nI_1 (md_cn q i)] at hi2
      exact hi2
    have no : ¬ q i = true → wY_inSupers_85 post (nI c) x4 x5 tc mc st (upd (md_a S) 0 (-1)) (md_a D) ow fi sg (md_a E) fl nm ds oz (md_l K) (r + 1) (nI (md_cn q i)) (md_ls oz q i) (nI (i + 1)) := by
      intro hpi
      have el : md_ls oz q (i + 1) = md_ls oz q i := by rw [md_ls, if_neg hpi]
      have en : md_cn q (i + 1) = md_cn q i := by rw [md_cn, if_neg hpi]
      rw [el, en] at hi2
      exact hi2
    refine br_f hlt ⟨vp_in_nI (by omega) (by omega), ?_⟩
    by_cases h0 : oz (nI i).toNatClampNeg < 0
    · refine br_t h0 ⟨c + 1 + 1, md_y111 post _ hc (by omega) hK hV (c + 1) 0 0 (by omega) (fun z => absurd rfl z) (fun z => absurd rfl z.1) (fun _ => no (fun w => ((hq i).mp w).1 ?_))⟩
      rw [nI_clamp (by omega)] at h0
      exact h0
    · refine br_f h0 ?_
      rw [nI_clamp (by omega)] at h0
      exact ⟨c + 1 + 1, md_y111 post _ hc (by omega) hK hV (c + 1) 0 1 (by omega) (fun _ => h0) (fun z => yes ((hq i).mpr ⟨h0, fun j hj => z.2.1 j (Nat.zero_le _) hj, z.2.2⟩)) (fun z => no (fun w => z ⟨by decide, fun j _ hj => ((hq i).mp w).2.1 j hj, ((hq i).mp w).2.2⟩))⟩
end
end
section
/-! the plain law: X's and Y's tables, counts and walks agree -/
/-- the invariant of the abstract state -/
def md_I (T M : Nat) (S D E K O : Nat → Nat) (fi nm ds : Nat → Int32) : Prop :=
  1 ≤ T ∧ T ≤ 6 ∧ M ≤ 8 ∧ S 0 = 0 ∧ D 0 = 0 ∧ K 0 = 0 ∧ fi 0 = 0
  ∧ (∀ j, 0 < j → j < T → S j < j)
  ∧ (∀ j, j < T → fi (S j) = 0)
  ∧ (∀ j, j < T → ¬ fi j = 0 → S j = 0)
  ∧ (∀ j, j < T → D j ≤ 3)
  ∧ (∀ j, T ≤ j → D j = 0)
  ∧ (∀ j, j < T → ∀ k, k < D j → E (j * 3 + k) < j ∧ ¬ fi (E (j * 3 + k)) = 0)
  ∧ (∀ j, j < T → K j < 64)
  ∧ (∀ j, j < T → ∀ i, (K j).testBit i = true → i < j ∧ ¬ fi i = 0)
  ∧ (∀ j, j < T → ∀ i, (K j).testBit i = true ↔ ((∃ k, k < D j ∧ (E (j * 3 + k) = i ∨ (K (E (j * 3 + k))).testBit i = true)) ∨ (K (S j)).testBit i = true))
  ∧ (∀ i, i < M → O i < T)
  ∧ (∀ i, i < M → ∀ i', i' < M → O i = O i' → nm i = nm i' → ds i = ds i' → i = i')
/-- X's inner loop and Y's answer alike -/
theorem md_ixy {E : Nat → Nat} {ca w v : Nat → Int32} {b : Nat} : ∀ r k a, md_V a → (∀ k', k ≤ k' → k' < k + r → md_V (w (E (b + k'))) ∧ md_V (ca (E (b + k'))) ∧ v (E (b + k')) = (if ca (E (b + k')) < 0 then w (E (b + k')) else ca (E (b + k')))) → md_ix E ca w b r k a = md_iy E v b r k a := by
  intro r
  induction r with
  | zero => intro k a _ _; rfl
  | succ r ih =>
    intro k a ha h
    unfold md_ix md_iy
    by_cases h0 : 0 ≤ a
    · rw [if_pos h0, if_pos h0]
    · rw [if_neg h0, if_neg h0]
      obtain ⟨h1, h2, h3⟩ := h k (Nat.le_refl _) (by omega)
      have ea : a = -1 := md_Vn ha (Int32.not_le.mp h0)
      have e : md_gx ca w a (E (b + k)) = v (E (b + k)) := by
        unfold md_gx
        rw [h3]
        by_cases hc : ca (E (b + k)) < 0
        · rw [if_pos hc, if_pos hc]
          by_cases hw : w (E (b + k)) < 0
          · rw [if_pos hw, ea, md_Vn h1 hw]
          · rw [if_neg hw]
        · rw [if_neg hc, if_neg hc]
      rw [e]
      refine ih (k + 1) _ ?_ (fun k' g1 g2 => h k' (by omega) (by omega))
      rw [h3]
      by_cases hc : ca (E (b + k)) < 0
      · rw [if_pos hc]; exact h1
      · rw [if_neg hc]; exact h2
/-- X's inner loop: its answer is a method's number just where one of the entries has one -/
theorem md_ix_s {E : Nat → Nat} {ca w : Nat → Int32} {b : Nat} : ∀ r k a, md_V a → (∀ k', k ≤ k' → k' < k + r → md_V (w (E (b + k'))) ∧ md_V (ca (E (b + k')))) → md_V (md_ix E ca w b r k a) ∧ (¬ md_ix E ca w b r k a < 0 ↔ (¬ a < 0 ∨ ∃ k', k ≤ k' ∧ k' < k + r ∧ (¬ ca (E (b + k')) < 0 ∨ ¬ w (E (b + k')) < 0))) := by
  intro r
  induction r with
  | zero =>
    intro k a ha _
    exact ⟨ha, fun z => Or.inl z, fun z => z.elim id (fun ⟨k', h1, h2, _⟩ => absurd h2 (by omega))⟩
  | succ r ih =>
    intro k a ha h
    unfold md_ix
    by_cases h0 : 0 ≤ a
    · rw [if_pos h0]
      have h0' : ¬ a < 0 := Int32.not_lt.mpr h0
      exact ⟨ha, fun z => Or.inl z, fun _ => h0'⟩
    · rw [if_neg h0]
      have ha0 : a < 0 := Int32.not_le.mp h0
      obtain ⟨h1, h2⟩ := h k (Nat.le_refl _) (by omega)
      have hg : md_V (md_gx ca w a (E (b + k))) := by
        unfold md_gx
        by_cases hc : ca (E (b + k)) < 0
        · rw [if_pos hc]
          by_cases hw : w (E (b + k)) < 0
          · rw [if_pos hw]; exact ha
          · rw [if_neg hw]; exact h1
        · rw [if_neg hc]; exact h2
      have hs : ¬ md_gx ca w a (E (b + k)) < 0 ↔ (¬ ca (E (b + k)) < 0 ∨ ¬ w (E (b + k)) < 0) := by
        unfold md_gx
        by_cases hc : ca (E (b + k)) < 0
        · rw [if_pos hc]
          by_cases hw : w (E (b + k)) < 0
          · rw [if_pos hw]
            exact ⟨fun z => absurd ha0 z, fun z => z.elim (fun y => absurd hc y) (fun y => absurd hw y)⟩
          · rw [if_neg hw]
            exact ⟨fun z => Or.inr z, fun _ => hw⟩
        · rw [if_neg hc]
          exact ⟨fun z => Or.inl z, fun _ => hc⟩
      obtain ⟨i1, i2⟩ := ih (k + 1) _ hg (fun k' g1 g2 => h k' (by omega) (by omega))
      refine ⟨i1, i2.trans ⟨fun z => ?_, fun z => ?_⟩⟩
      · rcases z with z | ⟨k', g1, g2, g3⟩
        · exact Or.inr ⟨k, Nat.le_refl _, by omega, hs.mp z⟩
        · exact Or.inr ⟨k', by omega, by omega, g3⟩
      · rcases z with z | ⟨k', g1, g2, g3⟩
        · exact absurd ha0 z
        · rcases Nat.lt_or_ge k k' with g | g
          · exact Or.inr ⟨k', by omega, by omega, g3⟩
          · have e : k' = k := by omega
            rw [e] at g3
            exact Or.inl (hs.mpr g3)
/-- what X's table holds below t -/
def md_JX (K : Nat → Nat) (ca : Nat → Int32) (t : Nat) (w : Nat → Int32) : Prop := ∀ j, j < t → md_V (w j) ∧ (¬ w j < 0 ↔ ∃ i, (K j).testBit i = true ∧ ¬ ca i < 0)
/-- what Y's table holds, against X's, below t; above t it still holds own -/
def md_JY (K : Nat → Nat) (ca : Nat → Int32) (c t : Nat) (w v : Nat → Int32) : Prop :=
  (∀ j, j ≤ c → md_V (v j))
  ∧ (∀ j, t ≤ j → j ≤ c → v j = md_g (K c) ca j)
  ∧ (∀ j, j < t → (∀ i, (K j).testBit i = true → (K c).testBit i = true) → v j = (if (K c).testBit j = true then (if ca j < 0 then w j else ca j) else w j))
section
variable {T M : Nat} {S D E K O : Nat → Nat} {fi nm ds fl ca w v : Nat → Int32} {c t : Nat}
theorem md_sx_s (I : md_I T M S D E K O fi nm ds) (ht : t < T) (hca : ∀ j, md_V (ca j)) (h : md_JX K ca t w) : md_V (md_sx S D E fi ca w t) ∧ (¬ md_sx S D E fi ca w t < 0 ↔ ∃ i, (K t).testBit i = true ∧ ¬ ca i < 0) := by
  obtain ⟨hT1, hT6, hM, hS0, hD0, hK0, hf0, hS, hSf, hSi, hD, hDz, hE, hK, hKb, hKe, hO, hu⟩ := I
  obtain ⟨i1, i2⟩ := md_ix_s (E := E) (ca := ca) (w := w) (b := t * 3) (D t) 0 (-1) (Or.inl rfl) (fun k _ hk => ⟨(h _ (hE t ht k (by omega)).1).1, hca _⟩)
  have i3 : ¬ md_ix E ca w (t * 3) (D t) 0 (-1) < 0 ↔ ∃ k, k < D t ∧ (¬ ca (E (t * 3 + k)) < 0 ∨ ¬ w (E (t * 3 + k)) < 0) := by
    refine i2.trans ⟨fun z => ?_, fun z => ?_⟩
    · rcases z with z | ⟨k, _, h2, h3⟩
      · exact absurd md_m1 z
      · exact ⟨k, by omega, h3⟩
    · obtain ⟨k, h2, h3⟩ := z
      exact Or.inr ⟨k, Nat.zero_le _, by omega, h3⟩
  -- the entries' part of the mask
  have i4 : ¬ md_ix E ca w (t * 3) (D t) 0 (-1) < 0 ↔ ∃ i, (∃ k, k < D t ∧ (E (t * 3 + k) = i ∨ (K (E (t * 3 + k))).testBit i = true)) ∧ ¬ ca i < 0 := by
    refine i3.trans ⟨fun z => ?_, fun z => ?_⟩
    · obtain ⟨k, h2, h3⟩ := z
      rcases h3 with h3 | h3
      · exact ⟨_, ⟨k, h2, Or.inl rfl⟩, h3⟩
      · obtain ⟨i, g1, g2⟩ := (h _ (hE t ht k h2).1).2.mp h3
        exact ⟨i, ⟨k, h2, Or.inr g1⟩, g2⟩
    · obtain ⟨i, ⟨k, h2, h3⟩, h4⟩ := z
      rcases h3 with h3 | h3
      · exact ⟨k, h2, Or.inl (h3 ▸ h4)⟩
      · exact ⟨k, h2, Or.inr ((h _ (hE t ht k h2).1).2.mpr ⟨i, h3, h4⟩)⟩
  unfold md_sx md_nx
  by_cases h0 : 0 ≤ md_ix E ca w (t * 3) (D t) 0 (-1)
  · rw [if_pos h0]
    refine ⟨i1, fun z => ?_, fun _ => Int32.not_lt.mpr h0⟩
    obtain ⟨i, g1, g2⟩ := i4.mp z
    exact ⟨i, (hKe t ht i).mpr (Or.inl g1), g2⟩
  · rw [if_neg h0]
    have hn : md_ix E ca w (t * 3) (D t) 0 (-1) < 0 := Int32.not_le.mp h0
    have none : ¬ ∃ i, (∃ k, k < D t ∧ (E (t * 3 + k) = i ∨ (K (E (t * 3 + k))).testBit i = true)) ∧ ¬ ca i < 0 := fun z => i4.mpr z hn
    have onlyS : ∀ i, (K t).testBit i = true → ¬ ca i < 0 → (K (S t)).testBit i = true := by
      intro i g1 g2
      rcases (hKe t ht i).mp g1 with g | g
      · exact absurd ⟨i, g, g2⟩ none
      · exact g
    by_cases h1 : t = 0
    · rw [if_pos h1]
      refine ⟨i1, fun z => absurd hn z, fun ⟨i, g1, _⟩ => ?_⟩
      rw [h1, hK0, Nat.zero_testBit] at g1
      exact absurd g1 (by decide)
    · rw [if_neg h1]
      by_cases h2 : fi t = 0
      · rw [if_pos h2]
        obtain ⟨s1, s2⟩ := h (S t) (hS t (by omega) ht)
        refine ⟨s1, fun z => ?_, fun ⟨i, g1, g2⟩ => s2.mpr ⟨i, onlyS i g1 g2, g2⟩⟩
        obtain ⟨i, g1, g2⟩ := s2.mp z
        exact ⟨i, (hKe t ht i).mpr (Or.inr g1), g2⟩
      · rw [if_neg h2]
        refine ⟨i1, fun z => absurd hn z, fun ⟨i, g1, g2⟩ => ?_⟩
        have g3 := onlyS i g1 g2
        rw [hSi t ht h2, hK0, Nat.zero_testBit] at g3
        exact absurd g3 (by decide)
theorem md_JX_s (I : md_I T M S D E K O fi nm ds) (ht : t < T) (hca : ∀ j, md_V (ca j)) (h : md_JX K ca t w) : md_JX K ca (t + 1) (upd w t (md_sx S D E fi ca w t)) := by
  intro j hj
  by_cases e : j = t
  · rw [e, pk_us]
    exact md_sx_s I ht hca h
  · rw [pk_un e]
    exact h j (by omega)
theorem md_JY_s (I : md_I T M S D E K O fi nm ds) (hc : c < T) (ht : t ≤ c) (hca : ∀ j, md_V (ca j)) (hx : md_JX K ca t w) (h : md_JY K ca c t w v) : md_JY K ca c (t + 1) (upd w t (md_sx S D E fi ca w t)) (upd v t (md_sy S D E v t)) := by
  have I' := I
  obtain ⟨hT1, hT6, hM, hS0, hD0, hK0, hf0, hS, hSf, hSi, hD, hDz, hE, hK, hKb, hKe, hO, hu⟩ := I'
  obtain ⟨hV, hhi, hlo⟩ := h
  have hVt : md_V (md_sy S D E v t) := md_sy_V ht (fun t' h1 h2 => hS t' h1 (by omega)) (fun t' h1 k hk => (hE t' (by omega) k hk).1) hV
  refine ⟨fun j hj => ?_, fun j h1 h2 => ?_, fun j hj hsub => ?_⟩
  · by_cases e : j = t
    · rw [e, pk_us]; exact hVt
    · rw [pk_un e]; exact hV j hj
  · rw [pk_un (by omega)]
    exact hhi j (by omega) h2
  · by_cases e : j = t
    · subst e
      rw [pk_us, pk_us]
      have hgj : v j = md_g (K c) ca j := hhi j (Nat.le_refl _) ht
      by_cases hv : v j < 0
      · -- own is -1
        have ev : v j = -1 := md_Vn (hV j ht) hv
        have hcaj : (K c).testBit j = true → ca j < 0 := by
          intro hb
          unfold md_g at hgj
          rw [if_pos hb] at hgj
          rw [← hgj]
          exact hv
        -- the two inner loops agree
        have eix : md_ix E ca w (j * 3) (D j) 0 (-1) = md_iy E v (j * 3) (D j) 0 (v j) := by
          rw [ev]
          refine md_ixy (D j) 0 (-1) (Or.inl rfl) (fun k _ hk => ?_)
          have he := (hE j (by omega) k (by omega)).1
          have hbit : (K j).testBit (E (j * 3 + k)) = true := (hKe j (by omega) _).mpr (Or.inl ⟨k, by omega, Or.inl rfl⟩)
          have hsube : ∀ i, (K (E (j * 3 + k))).testBit i = true → (K c).testBit i = true := fun i hi => hsub i ((hKe j (by omega) i).mpr (Or.inl ⟨k, by omega, Or.inr hi⟩))
          refine ⟨(hx _ he).1, hca _, ?_⟩
          rw [hlo _ he hsube, if_pos (hsub _ hbit)]
        have goal : md_sy S D E v j = md_sx S D E fi ca w j := by
          unfold md_sy md_sx
          rw [← eix]
          have hixV : md_V (md_ix E ca w (j * 3) (D j) 0 (-1)) := (md_ix_s (E := E) (ca := ca) (w := w) (b := j * 3) (D j) 0 (-1) (Or.inl rfl) (fun k _ hk => ⟨(hx _ (hE j (by omega) k (by omega)).1).1, hca _⟩)).1
          generalize md_ix E ca w (j * 3) (D j) 0 (-1) = a at hixV
          unfold md_ny md_nx
          by_cases h0 : 0 ≤ a
          · rw [if_pos h0, if_pos h0]
          · rw [if_neg h0, if_neg h0]
            by_cases h1 : j = 0
            · rw [if_pos h1, if_pos h1]
            · rw [if_neg h1, if_neg h1]
              have hs := hS j (by omega) (by omega)
              have hsubs : ∀ i, (K (S j)).testBit i = true → (K c).testBit i = true := fun i hi => hsub i ((hKe j (by omega) i).mpr (Or.inr hi))
              have hnb : ¬ (K c).testBit (S j) = true := fun z => (hKb c hc _ z).2 (hSf j (by omega))
              rw [hlo _ hs hsubs, if_neg hnb]
              by_cases h2 : fi j = 0
              · rw [if_pos h2]
              · rw [if_neg h2, md_Vn hixV (Int32.not_le.mp h0)]
                have e0 := hSi j (by omega) h2
                rw [e0]
                obtain ⟨s1, s2⟩ := hx 0 (by omega)
                by_cases h3 : w 0 < 0
                · exact md_Vn s1 h3
                · obtain ⟨i, g1, _⟩ := s2.mp h3
                  rw [hK0, Nat.zero_testBit] at g1
                  exact absurd g1 (by decide)
        rw [goal]
        by_cases hb : (K c).testBit j = true
        · rw [if_pos hb, if_pos (hcaj hb)]
        · rw [if_neg hb]
      · -- own is a method's number
        have hv0 : 0 ≤ v j := Int32.not_lt.mp hv
        have hb : (K c).testBit j = true := by
          cases hh : (K c).testBit j
          · unfold md_g at hgj
            rw [hh] at hgj
            rw [hgj] at hv
            exact absurd md_m1 hv
          · rfl
        have e1 : md_sy S D E v j = v j := by
          unfold md_sy md_ny
          rw [md_iy_p hv0, if_pos hv0]
        unfold md_g at hgj
        rw [if_pos hb] at hgj
        rw [e1, if_pos hb, hgj]
        rw [hgj] at hv
        rw [if_neg hv]
    · rw [pk_un e, pk_un e]
      exact hlo j (by omega) hsub
theorem md_J_it (I : md_I T M S D E K O fi nm ds) (hc : c < T) (hca : ∀ j, md_V (ca j)) : ∀ r t (w v : Nat → Int32), t + r = c + 1 → md_JX K ca t w → md_JY K ca c t w v → md_JX K ca (c + 1) (md_wx S D E fi ca r t w) ∧ md_JY K ca c (c + 1) (md_wx S D E fi ca r t w) (md_wy S D E r t v) := by
  intro r
  induction r with
  | zero =>
    intro t w v ht hx hy
    have e : t = c + 1 := by omega
    subst e
    exact ⟨hx, hy⟩
  | succ r ih =>
    intro t w v ht hx hy
    exact ih (t + 1) _ _ (by omega) (md_JX_s I (by omega) hca hx) (md_JY_s I hc (by omega) hca hx hy)
end
end
section
/-! viaSuper and inSupers: one outcome -/
section
variable {tc mc st st2 : Int32} {sp fi dc di mk wa ow nm ds fl sg so oz : Nat → Int32} {up : Nat → Int64} {T M : Nat} {S D E K O : Nat → Nat} {n d : Int32} {c : Nat}
theorem md_own {m t : Nat} (hM : M ≤ 8) (ht : t < 6) (hO : ∀ i, i < M → O i < 6) (hu : ∀ i, i < M → ∀ i', i' < M → O i = O i' → nm i = nm i' → ds i = ds i' → i = i') : (md_g m (md_cj M (md_a O) nm ds fl n d) t = -1 ∧ ∀ i, i < M → O i = t → ¬ md_C m O nm ds fl n d i) ∨ (∃ i, i < M ∧ O i = t ∧ md_C m O nm ds fl n d i ∧ md_g m (md_cj M (md_a O) nm ds fl n d) t = nI i) := by
  unfold md_g
  by_cases hb : m.testBit t = true
  · rw [if_pos hb]
    rcases md_cj_spec (fl := fl) (n := n) (d := d) hM ht hO hu with ⟨e, z⟩ | ⟨i, h1, h2, h3, h4⟩
    · exact Or.inl ⟨e, fun i hi ho hC => z i hi ho hC.2⟩
    · exact Or.inr ⟨i, h1, h2, ⟨by rw [h2]; exact hb, h3⟩, h4⟩
  · rw [if_neg hb]
    exact Or.inl ⟨rfl, fun i _ ho hC => hb (by rw [← ho]; exact hC.1)⟩
theorem md_cnt (I : md_I T M S D E K O fi nm ds) (hc : c < T) {v : Nat → Int32} (hv : ∀ t, t ≤ c → v t = md_g (K c) (md_cj M (md_a O) nm ds fl n d) t) {p q : Nat → Bool} (hp : ∀ i, p i = true ↔ md_P M (K c) K O nm ds fl n d i) (hq : ∀ i, q i = true ↔ md_R c K v fl i) : (md_cn p M = 1 ↔ md_cn q (c + 1) = 1) ∧ (md_cn p M = 1 → md_ls nI p M = md_ls v q (c + 1)) := by
  obtain ⟨hT1, hT6, hM, hS0, hD0, hK0, hf0, hS, hSf, hSi, hD, hDz, hE, hK, hKb, hKe, hO, hu⟩ := I
  have hO6 : ∀ i, i < M → O i < 6 := fun i hi => by have := hO i hi; omega
  have own : ∀ t, t ≤ c → (v t = -1 ∧ ∀ i, i < M → O i = t → ¬ md_C (K c) O nm ds fl n d i) ∨ (∃ i, i < M ∧ O i = t ∧ md_C (K c) O nm ds fl n d i ∧ v t = nI i) := by
    intro t ht
    rw [hv t ht]
    exact md_own hM (by omega) hO6 hu
  have isc : ∀ i, i < M → md_C (K c) O nm ds fl n d i → O i ≤ c ∧ v (O i) = nI i := by
    intro i hi hC
    have hle : O i ≤ c := Nat.le_of_lt (hKb c hc _ hC.1).1
    refine ⟨hle, ?_⟩
    rcases own (O i) hle with ⟨_, z⟩ | ⟨i', h1, h2, h3, h4⟩
    · exact absurd hC (z i hi rfl)
    · have e : i' = i := hu i' h1 i hi h2 (h3.2.1.trans hC.2.1.symm) (h3.2.2.1.trans hC.2.2.1.symm)
      rw [h4, e]
  refine md_bij (O := O) (fun i hi hpi => ?_) (fun t ht hqt => ?_) hM
  · obtain ⟨hC, hmax, hfl⟩ := (hp i).mp hpi
    obtain ⟨hle, ev⟩ := isc i hi hC
    refine ⟨by omega, (hq _).mpr ⟨?_, fun j hj z => ?_, ?_⟩, ev⟩
    · rw [ev]; exact nI_pos (by omega)
    · rcases own j hj with ⟨e, _⟩ | ⟨i', h1, h2, h3, h4⟩
      · rw [e] at z
        exact absurd md_m1 z.1
      · by_cases e : i' = i
        · have := (hKb j (by omega) _ z.2).1
          rw [← h2, e] at this
          omega
        · exact hmax i' h1 ⟨e, h3, by rw [h2]; exact z.2⟩
    · rw [ev, nI_clamp (by omega)]; exact hfl
  · obtain ⟨hpos, hmax, hfl⟩ := (hq t).mp hqt
    rcases own t (by omega) with ⟨e, _⟩ | ⟨i, h1, h2, h3, h4⟩
    · rw [e] at hpos
      exact absurd md_m1 hpos
    · refine ⟨i, h1, (hp i).mpr ⟨h3, fun j hj z => ?_, ?_⟩, h2⟩
      · obtain ⟨hle, ev⟩ := isc j hj z.2.1
        refine hmax (O j) hle ⟨?_, ?_⟩
        · rw [ev]; exact nI_pos (by omega)
        · rw [← h2]; exact z.2.2
      · rw [h4, nI_clamp (by omega)] at hfl
        exact hfl
theorem md_tab (I : md_I T M S D E K O fi nm ds) (hc : c < T) {v : Nat → Int32} (hv : ∀ t, t ≤ c → v t = md_g (K c) (md_cj M (md_a O) nm ds fl n d) t) {q : Nat → Bool} (hq : ∀ i, q i = true ↔ md_C (K c) O nm ds fl n d i) : md_wy S D E (c + 1) 0 v c = md_wx S D E fi (md_cj M (md_a O) nm ds fl n d) (c + 1) 0 wa c ∧ (md_an q M = 0 ↔ md_wy S D E (c + 1) 0 v c < 0) := by
  have I' := I
  obtain ⟨hT1, hT6, hM, hS0, hD0, hK0, hf0, hS, hSf, hSi, hD, hDz, hE, hK, hKb, hKe, hO, hu⟩ := I'
  have hO6 : ∀ i, i < M → O i < 6 := fun i hi => by have := hO i hi; omega
  have hca : ∀ j, md_V (md_cj M (md_a O) nm ds fl n d j) := fun j => md_cj_V hM
  have hgV : ∀ t, md_V (md_g (K c) (md_cj M (md_a O) nm ds fl n d) t) := by
    intro t
    unfold md_g
    by_cases hb : (K c).testBit t = true
    · rw [if_pos hb]; exact hca t
    · rw [if_neg hb]; exact Or.inl rfl
  obtain ⟨jx, jy⟩ := md_J_it I hc hca (c + 1) 0 wa v (by omega) (fun j hj => absurd hj (by omega)) ⟨fun j hj => by rw [hv j hj]; exact hgV j, fun j _ hj => hv j hj, fun j hj => absurd hj (by omega)⟩
  have hnb : ¬ (K c).testBit c = true := fun z => absurd (hKb c hc c z).1 (by omega)
  have e : md_wy S D E (c + 1) 0 v c = md_wx S D E fi (md_cj M (md_a O) nm ds fl n d) (c + 1) 0 wa c := by
    rw [jy.2.2 c (by omega) (fun i hi => hi), if_neg hnb]
  refine ⟨e, ?_⟩
  rw [e]
  have key := (jx c (by omega)).2
  refine ⟨fun z => ?_, fun z => ?_⟩
  · refine Classical.byContradiction (fun y => ?_)
    obtain ⟨t, h1, h2⟩ := key.mp y
    have ht := (hKb c hc t h1).1
    rcases md_cj_spec (t := t) (fl := fl) (n := n) (d := d) hM (by omega) hO6 hu with ⟨e1, _⟩ | ⟨i, g1, g2, g3, _⟩
    · rw [e1] at h2
      exact h2 md_m1
    · exact (md_an_0 M).mp z i g1 ((hq i).mpr ⟨by rw [g2]; exact h1, g3⟩)
  · refine (md_an_0 M).mpr (fun i hi hqi => ?_)
    obtain ⟨hb, hN⟩ := (hq i).mp hqi
    refine key.mpr ⟨O i, hb, fun y => ?_⟩ z
    rcases md_cj_spec (t := O i) (fl := fl) (n := n) (d := d) hM (hO6 i hi) hO6 hu with ⟨_, z1⟩ | ⟨i', g1, g2, g3, g4⟩
    · exact z1 i hi rfl hN
    · rw [g4] at y
      exact nI_pos (by omega) y
theorem md_via {b1 b2 b3 inc : Int32} (I : md_I T M S D E K O fi nm ds) (hc : c < T) (e2 : b2 = b1 + inc) (e3 : b3 = b1 + inc + inc) : ∃ (r s : Int32) (wa' oz' : Nat → Int32), (∀ (st : Int32) (post : Int32 → SX → Prop), post r (nI T, nI M, s, md_a S, fi, md_a D, md_a E, md_a K, wa', md_a O, nm, ds, fl, sg) → wpX_viaSuper post (nI T, nI M, st, md_a S, fi, md_a D, md_a E, md_a K, wa, md_a O, nm, ds, fl, sg) (nI c) n d b1 b2 b3) ∧ (∀ (st : Int32) (post : Int32 → SY → Prop), post r (nI T, nI M, s, upd (md_a S) 0 (-1), md_a D, md_a O, fi, sg, md_a E, fl, nm, ds, oz', md_l K) → wpY_inSupers post (nI T, nI M, st, upd (md_a S) 0 (-1), md_a D, md_a O, fi, sg, md_a E, fl, nm, ds, oz, md_l K) (nI c) n d b1 inc) := by
  have I' := I
  obtain ⟨hT1, hT6, hM, hS0, hD0, hK0, hf0, hS, hSf, hSi, hD, hDz, hE, hK, hKb, hKe, hO, hu⟩ := I'
  have hO6 : ∀ i, i < M → O i < 6 := fun i hi => by have := hO i hi; omega
  have hKO : ∀ i, i < M → K (O i) < 64 := fun i hi => hK _ (hO i hi)
  have hS6 : ∀ t, t ≤ c → S t < 6 := by
    intro t ht
    rcases Nat.eq_zero_or_pos t with e | e
    · rw [e, hS0]; omega
    · have := hS t e (by omega); omega
  have hS' : ∀ t, 0 < t → t ≤ c → S t < t := fun t h1 h2 => hS t h1 (by omega)
  have hD' : ∀ t, t ≤ c → D t ≤ 3 := fun t h => hD t (by omega)
  have hE' : ∀ t, t ≤ c → ∀ k, k < D t → E (t * 3 + k) < t := fun t h k hk => (hE t (by omega) k hk).1
  have hE6 : ∀ t, t ≤ c → ∀ k, k < D t → E (t * 3 + k) < 6 := fun t h k hk => by have := hE' t h k hk; omega
  have hK' : ∀ j, j ≤ c → K j < 64 := fun j h => hK j (by omega)
  have hv : ∀ t, t ≤ c → md_f oz (md_g (K c) (md_cj M (md_a O) nm ds fl n d)) (c + 1) t = md_g (K c) (md_cj M (md_a O) nm ds fl n d) t := fun t ht => md_fl (by omega)
  have hvV : ∀ t, t ≤ c → md_V (md_f oz (md_g (K c) (md_cj M (md_a O) nm ds fl n d)) (c + 1) t) := by
    intro t ht
    rw [hv t ht]
    unfold md_g
    by_cases hb : (K c).testBit t = true
    · rw [if_pos hb]; exact md_cj_V hM
    · rw [if_neg hb]; exact Or.inl rfl
  obtain ⟨p, hp⟩ : ∃ p : Nat → Bool, ∀ i, p i = true ↔ md_P M (K c) K O nm ds fl n d i := ⟨fun i => md_b _, fun i => md_b_t⟩
  obtain ⟨q, hq⟩ : ∃ q : Nat → Bool, ∀ i, q i = true ↔ md_C (K c) O nm ds fl n d i := ⟨fun i => md_b _, fun i => md_b_t⟩
  obtain ⟨rr, hr⟩ : ∃ q : Nat → Bool, ∀ i, q i = true ↔ md_R c K (md_f oz (md_g (K c) (md_cj M (md_a O) nm ds fl n d)) (c + 1)) fl i := ⟨fun i => md_b _, fun i => md_b_t⟩
  obtain ⟨c1, c2⟩ := md_cnt I hc hv hp hr
  obtain ⟨t1, t2⟩ := md_tab (wa := wa) I hc hv hq
  have X : ∀ (st : Int32) (post : Int32 → SX → Prop), (md_cn p M = 1 → post (md_ls nI p M) (nI T, nI M, b1, md_a S, fi, md_a D, md_a E, md_a K, wa, md_a O, nm, ds, fl, sg)) → (¬ md_cn p M = 1 → md_an q M = 0 → post (-2) (nI T, nI M, b3, md_a S, fi, md_a D, md_a E, md_a K, wa, md_a O, nm, ds, fl, sg)) → (¬ md_cn p M = 1 → ¬ md_an q M = 0 → post (md_wx S D E fi (md_cj M (md_a O) nm ds fl n d) (c + 1) 0 wa c) (nI T, nI M, b2, md_a S, fi, md_a D, md_a E, md_a K, md_wx S D E fi (md_cj M (md_a O) nm ds fl n d) (c + 1) 0 wa, md_a O, nm, ds, fl, sg)) → wpX_viaSuper post (nI T, nI M, st, md_a S, fi, md_a D, md_a E, md_a K, wa, md_a O, nm, ds, fl, sg) (nI c) n d b1 b2 b3 := by
    intro st post h1 h2 h3
    exact ⟨vp_in_nI (by omega) (by omega), nm_r (e' := nI (K c)) (md_at (by omega)) ⟨M + 1, md_x20 post hM (by omega) (hK c hc) hO6 hKO hS6 hD' hE6 hp hq h1 h2 h3 M 0 (by omega)⟩⟩
  have Y : ∀ (st : Int32) (post : Int32 → SY → Prop), (md_cn rr (c + 1) = 1 → post (md_ls (md_f oz (md_g (K c) (md_cj M (md_a O) nm ds fl n d)) (c + 1)) rr (c + 1)) (nI T, nI M, b1, upd (md_a S) 0 (-1), md_a D, md_a O, fi, sg, md_a E, fl, nm, ds, md_f oz (md_g (K c) (md_cj M (md_a O) nm ds fl n d)) (c + 1), md_l K)) → (¬ md_cn rr (c + 1) = 1 → md_wy S D E (c + 1) 0 (md_f oz (md_g (K c) (md_cj M (md_a O) nm ds fl n d)) (c + 1)) c < 0 → post (-2) (nI T, nI M, b1 + inc + inc, upd (md_a S) 0 (-1), md_a D, md_a O, fi, sg, md_a E, fl, nm, ds, md_wy S D E (c + 1) 0 (md_f oz (md_g (K c) (md_cj M (md_a O) nm ds fl n d)) (c + 1)), md_l K)) → (¬ md_cn rr (c + 1) = 1 → ¬ md_wy S D E (c + 1) 0 (md_f oz (md_g (K c) (md_cj M (md_a O) nm ds fl n d)) (c + 1)) c < 0 → post (md_wy S D E (c + 1) 0 (md_f oz (md_g (K c) (md_cj M (md_a O) nm ds fl n d)) (c + 1)) c) (nI T, nI M, b1 + inc, upd (md_a S) 0 (-1), md_a D, md_a O, fi, sg, md_a E, fl, nm, ds, md_wy S D E (c + 1) 0 (md_f oz (md_g (K c) (md_cj M (md_a O) nm ds fl n d)) (c + 1)), md_l K)) → wpY_inSupers post (nI T, nI M, st, upd (md_a S) 0 (-1), md_a D, md_a O, fi, sg, md_a E, fl, nm, ds, oz, md_l K) (nI c) n d b1 inc := by
    intro st post h1 h2 h3
    have h85 := md_y85 (tc := nI T) (mc := nI M) (st := st) (fi := fi) (ow := md_a O) (nm := nm) (ds := ds) (sg := sg) post (by omega) hS' hS0 hD' hE' hK' hvV hr h1 h2 h3 (c + 1) 0 (by omega)
    have h3' := md_y3 (oz := oz) post hM (show c < 6 by omega) (hK c hc) ⟨_, h85⟩ (c + 1) 0 (by omega)
    rw [md_f0] at h3'
    exact ⟨c + 1 + 1, h3'⟩
  by_cases hn : md_cn p M = 1
  · refine ⟨md_ls nI p M, b1, wa, md_f oz (md_g (K c) (md_cj M (md_a O) nm ds fl n d)) (c + 1), fun st post h => X st post (fun _ => h) (fun z => absurd hn z) (fun z => absurd hn z), fun st post h => Y st post (fun _ => ?_) (fun z => absurd (c1.mp hn) z) (fun z => absurd (c1.mp hn) z)⟩
    rw [← c2 hn]
    exact h
  · have hn' : ¬ md_cn rr (c + 1) = 1 := fun z => hn (c1.mpr z)
    by_cases ha : md_an q M = 0
    · refine ⟨-2, b3, wa, md_wy S D E (c + 1) 0 (md_f oz (md_g (K c) (md_cj M (md_a O) nm ds fl n d)) (c + 1)), fun st post h => X st post (fun z => absurd z hn) (fun _ _ => h) (fun _ z => absurd ha z), fun st post h => Y st post (fun z => absurd z hn') (fun _ _ => ?_) (fun _ z => absurd (t2.mp ha) z)⟩
      rw [← e3]
      exact h
    · refine ⟨_, b2, _, md_wy S D E (c + 1) 0 (md_f oz (md_g (K c) (md_cj M (md_a O) nm ds fl n d)) (c + 1)), fun st post h => X st post (fun z => absurd z hn) (fun _ z => absurd z ha) (fun _ _ => h), fun st post h => Y st post (fun z => absurd z hn') (fun _ z => absurd (t2.mpr z) ha) (fun _ _ => ?_)⟩
      rw [t1, ← e2]
      exact h
end
end
section
/-! resolveClassMethod, resolveIfaceMethod: one outcome -/
def md_sm (ow nm : Nat → Int32) (o n : Int32) (i : Nat) : Bool := decide (ow i = o ∧ nm i = n)
theorem md_sm_t {ow nm : Nat → Int32} {o n : Int32} {i : Nat} : md_sm ow nm o n i = true ↔ (ow i = o ∧ nm i = n) := decide_eq_true_iff
/-- the chain of superclasses: an answer with its step, or none -/
def md_ch (M : Nat) (S : Nat → Nat) (ow nm ds sg : Nat → Int32) (n d : Int32) : Nat → Nat → Option (Int32 × Int32)
  | 0, _ => none
  | f + 1, k => if md_cn (md_sm ow nm (nI k) n) M = 1 ∧ ¬ sg (md_ls nI (md_sm ow nm (nI k) n) M).toNatClampNeg = 0 then some (md_ls nI (md_sm ow nm (nI k) n) M, 321) else if md_fd ow nm ds (nI k) n d M 0 < 0 then (if k = 0 then none else md_ch M S ow nm ds sg n d f (S k)) else some (md_fd ow nm ds (nI k) n d M 0, 322)
section
variable {tc mc st : Int32} {sp fi dc di mk wa ow nm ds fl sg so oz : Nat → Int32} {up : Nat → Int64} {T M : Nat} {S D E K O : Nat → Nat} {n d : Int32} {c : Nat}
theorem md_x68 {x1 x6 x7 : Int32} (post : Int32 → SX → Prop) (J : Int32 → Int32 → Prop) (hM : M ≤ 8)
    (h1 : md_cn (md_sm ow nm x6 n) M = 1 ∧ ¬ sg (md_ls nI (md_sm ow nm x6 n) M).toNatClampNeg = 0 → post (md_ls nI (md_sm ow nm x6 n) M) (tc, nI M, 321, sp, fi, dc, di, mk, wa, ow, nm, ds, fl, sg))
    (h2 : ¬ (md_cn (md_sm ow nm x6 n) M = 1 ∧ ¬ sg (md_ls nI (md_sm ow nm x6 n) M).toNatClampNeg = 0) → wX_resolveClassMethod_140 post J x1 n d x6 x7 tc (nI M) st sp fi dc di mk wa ow nm ds fl sg) : ∀ k i, i + k = M → wX_resolveClassMethod_68 post J x1 n d x6 x7 tc (nI M) st sp fi dc di mk wa ow nm ds fl sg (k + 1) (nI (md_cn (md_sm ow nm x6 n) i)) (md_ls nI (md_sm ow nm x6 n) i) (nI i) := by
  intro k
  induction k with
  | zero =>
    intro i hi
    have e : i = M := by omega
    subst e
    refine br_t (nI_le (by omega) (by omega)) ?_
    have hcn : md_cn (md_sm ow nm x6 n) i ≤ i := md_cn_le i
    by_cases hn : md_cn (md_sm ow nm x6 n) i = 1
    · refine br_t (by rw [hn]; rfl) ⟨?_, ?_⟩
      · obtain ⟨j, g1, _, _, g4⟩ := md_cn_1 nI i hn
        rw [g4]
        exact vp_in_nI (by omega) (by omega)
      · by_cases hs : sg (md_ls nI (md_sm ow nm x6 n) i).toNatClampNeg = 0
        · exact br_t hs (h2 (fun z => z.2 hs))
        · exact br_f hs (h1 ⟨hn, hs⟩)
    · have hn' : ¬ nI (md_cn (md_sm ow nm x6 n) i) = 1 := fun z => hn ((nI_eq (b := 1) (by omega) (by decide)).mp z)
      exact br_f hn' (h2 (fun z => hn z.1))
  | succ k ih =>
    intro i hi
    have hlt : ¬ nI M ≤ nI i := nI_ge (by omega) (by omega)
    have hin : vp_in (nI i) 8 := vp_in_nI (by omega) (by omega)
    have ec : (nI i).toNatClampNeg = i := nI_clamp (by omega)
    have hi2 := ih (i + 1) (by omega)
    have no : ¬ md_sm ow nm x6 n i = true → wX_resolveClassMethod_68 post J x1 n d x6 x7 tc (nI M) st sp fi dc di mk wa ow nm ds fl sg (k + 1) (nI (md_cn (md_sm ow nm x6 n) i)) (md_ls nI (md_sm ow nm x6 n) i) (nI (i + 1)) := by
      intro hp
      have el : md_ls nI (md_sm ow nm x6 n) (i + 1) = md_ls nI (md_sm ow nm x6 n) i := by rw [md_ls, if_neg hp]
      have en : md_cn (md_sm ow nm x6 n) (i + 1) = md_cn (md_sm ow nm x6 n) i := by rw [md_cn, if_neg hp]
      rw [el, en] at hi2
      exact hi2
    refine br_f hlt ⟨hin, ?_⟩
    by_cases g1 : ow (nI i).toNatClampNeg = x6
    · refine br_t g1 ⟨hin, ?_⟩
      by_cases g2 : nm (nI i).toNatClampNeg = n
      · refine br_t g2 (nm_e (nm_r (nI_1 i) ?_))
        rw [ec] at g1 g2
        have hp : md_sm ow nm x6 n i = true := md_sm_t.mpr ⟨g1, g2⟩
        have el : md_ls nI (md_sm ow nm x6 n) (i + 1) = nI i := by rw [md_ls, if_pos hp]
        have en : md_cn (md_sm ow nm x6 n) (i + 1) = md_cn (md_sm ow nm x6 n) i + 1 := by rw [md_cn, if_pos hp]
        rw [el, en, ← nI_1 (md_cn (md_sm ow nm x6 n) i)] at hi2
        exact hi2
      · refine br_f g2 (nm_r (nI_1 i) (no (fun z => g2 ?_)))
        rw [ec]; exact (md_sm_t.mp z).2
    · refine br_f g1 (nm_r (nI_1 i) (no (fun z => g1 ?_)))
      rw [ec]; exact (md_sm_t.mp z).1
theorem md_y63 {x1 x6 : Int32} (post : Int32 → SY → Prop) (J : Int32 → Int32 → Prop) (hM : M ≤ 8)
    (h1 : md_cn (md_sm ow nm x6 n) M = 1 ∧ ¬ sg (md_ls nI (md_sm ow nm x6 n) M).toNatClampNeg = 0 → post (md_ls nI (md_sm ow nm x6 n) M) (tc, nI M, 321, so, dc, ow, fi, sg, di, fl, nm, ds, oz, up))
    (h2 : ¬ (md_cn (md_sm ow nm x6 n) M = 1 ∧ ¬ sg (md_ls nI (md_sm ow nm x6 n) M).toNatClampNeg = 0) → wY_resolveClassMethod_135 post J x1 n d x6 tc (nI M) 321 so dc ow fi sg di fl nm ds oz up) : ∀ k i, i + k = M → wY_resolveClassMethod_63 post J x1 n d x6 tc (nI M) st so dc ow fi sg di fl nm ds oz up (k + 1) (nI (md_cn (md_sm ow nm x6 n) i)) (md_ls nI (md_sm ow nm x6 n) i) (nI i) := by
  intro k
  induction k with
  | zero =>
    intro i hi
    have e : i = M := by omega
    subst e
    refine br_t (nI_le (by omega) (by omega)) ?_
    have hcn : md_cn (md_sm ow nm x6 n) i ≤ i := md_cn_le i
    by_cases hn : md_cn (md_sm ow nm x6 n) i = 1
    · refine br_t (by rw [hn]; rfl) ⟨?_, ?_⟩
      · obtain ⟨j, g1, _, _, g4⟩ := md_cn_1 nI i hn
        rw [g4]
        exact vp_in_nI (by omega) (by omega)
      · by_cases hs : sg (md_ls nI (md_sm ow nm x6 n) i).toNatClampNeg = 0
        · exact br_t hs (h2 (fun z => z.2 hs))
        · exact br_f hs (h1 ⟨hn, hs⟩)
    · have hn' : ¬ nI (md_cn (md_sm ow nm x6 n) i) = 1 := fun z => hn ((nI_eq (b := 1) (by omega) (by decide)).mp z)
      exact br_f hn' (h2 (fun z => hn z.1))
  | succ k ih =>
    intro i hi
    have hlt : ¬ nI M ≤ nI i := nI_ge (by omega) (by omega)
    have hin : vp_in (nI i) 8 := vp_in_nI (by omega) (by omega)
    have ec : (nI i).toNatClampNeg = i := nI_clamp (by omega)
    have hi2 := ih (i + 1) (by omega)
    have no : ¬ md_sm ow nm x6 n i = true → wY_resolveClassMethod_63 post J x1 n d x6 tc (nI M) st so dc ow fi sg di fl nm ds oz up (k + 1) (nI (md_cn (md_sm ow nm x6 n) i)) (md_ls nI (md_sm ow nm x6 n) i) (nI (i + 1)) := by
      intro hp
      have el : md_ls nI (md_sm ow nm x6 n) (i + 1) = md_ls nI (md_sm ow nm x6 n) i := by rw [md_ls, if_neg hp]
      have en : md_cn (md_sm ow nm x6 n) (i + 1) = md_cn (md_sm ow nm x6 n) i := by rw [md_cn, if_neg hp]
      rw [el, en] at hi2
      exact hi2
    refine br_f hlt ⟨hin, ?_⟩
    by_cases g1 : ow (nI i).toNatClampNeg = x6
    · refine br_t g1 ⟨hin, ?_⟩
      by_cases g2 : nm (nI i).toNatClampNeg = n
      · refine br_t g2 (nm_e (nm_r (nI_1 i) ?_))
        rw [ec] at g1 g2
        have hp : md_sm ow nm x6 n i = true := md_sm_t.mpr ⟨g1, g2⟩
        have el : md_ls nI (md_sm ow nm x6 n) (i + 1) = nI i := by rw [md_ls, if_pos hp]
        have en : md_cn (md_sm ow nm x6 n) (i + 1) = md_cn (md_sm ow nm x6 n) i + 1 := by rw [md_cn, if_pos hp]
        rw [el, en, ← nI_1 (md_cn (md_sm ow nm x6 n) i)] at hi2
        exact hi2
      · refine br_f g2 (nm_r (nI_1 i) (no (fun z => g2 ?_)))
        rw [ec]; exact (md_sm_t.mp z).2
    · refine br_f g1 (nm_r (nI_1 i) (no (fun z => g1 ?_)))
      rw [ec]; exact (md_sm_t.mp z).1
theorem md_x52 {x1 : Int32} (post : Int32 → SX → Prop) (hM : M ≤ 8) (hS : ∀ j, 0 < j → j ≤ 5 → j < T → S j < j) : ∀ f k g, k < f → k < T → g + k ≤ 5 → (∀ r s, md_ch M S ow nm ds sg n d f k = some (r, s) → post r (tc, nI M, s, md_a S, fi, dc, di, mk, wa, ow, nm, ds, fl, sg)) → (md_ch M S ow nm ds sg n d f k = none → wX_resolveClassMethod_190 post x1 n d tc (nI M) st (md_a S) fi dc di mk wa ow nm ds fl sg) → wX_resolveClassMethod_52 post x1 n d tc (nI M) st (md_a S) fi dc di mk wa ow nm ds fl sg f (nI k) (nI g) := by
  intro f
  induction f with
  | zero => intro k g hk; omega
  | succ f ih =>
    intro k g hk hkT hg hs hn
    have hlt : ¬ (6 : Int32) ≤ nI g := nI_ge (b := 6) (by omega) (by decide)
    unfold md_ch at hs hn
    refine br_f hlt ⟨M + 1, ?_⟩
    refine md_x68 post _ hM (fun z => ?_) (fun z => ?_) M 0 (by omega)
    · rw [if_pos z] at hs
      exact hs _ _ rfl
    · rw [if_neg z] at hs hn
      unfold wX_resolveClassMethod_140
      refine md_xfd hM _ ?_
      by_cases hf : md_fd ow nm ds (nI k) n d M 0 < 0
      · rw [if_pos hf] at hs hn
        refine br_t hf ?_
        by_cases h0 : k = 0
        · rw [if_pos h0] at hs hn
          exact br_t (by rw [h0]; exact nI_0) (hn rfl)
        · rw [if_neg h0] at hs hn
          have hlt2 := hS k (by omega) (by omega) hkT
          exact br_f (nI_ne0 (by omega) (by omega)) ⟨vp_in_nI (by omega) (by omega), nm_r (e' := nI (S k)) (md_at (by omega)) (nm_r (nI_1 g) (ih (S k) (g + 1) (by omega) (by omega) (by omega) hs hn))⟩
      · rw [if_neg hf] at hs
        exact br_f hf (hs _ _ rfl)
theorem md_y49 {x1 : Int32} (post : Int32 → SY → Prop) (hM : M ≤ 8) (hT : T ≤ 6) (hS : ∀ j, 0 < j → j ≤ 5 → j < T → S j < j) : ∀ f k (st : Int32), k < f → k < T → (∀ r s, md_ch M S ow nm ds sg n d f k = some (r, s) → post r (tc, nI M, s, upd (md_a S) 0 (-1), dc, ow, fi, sg, di, fl, nm, ds, oz, up)) → (md_ch M S ow nm ds sg n d f k = none → ∀ (st : Int32) (R : Int32 → SY → Prop), (∀ (r s : Int32) (oz : Nat → Int32), post r (tc, nI M, s, upd (md_a S) 0 (-1), dc, ow, fi, sg, di, fl, nm, ds, oz, up) → R r (tc, nI M, s, upd (md_a S) 0 (-1), dc, ow, fi, sg, di, fl, nm, ds, oz, up)) → wpY_inSupers R (tc, nI M, st, upd (md_a S) 0 (-1), dc, ow, fi, sg, di, fl, nm, ds, oz, up) x1 n d 331 1) → wY_resolveClassMethod_49 post x1 n d tc (nI M) (upd (md_a S) 0 (-1)) dc ow fi sg di fl nm ds oz up (f + 1) (nI k) st := by
  intro f
  induction f with
  | zero => intro k st hk; omega
  | succ f ih =>
    intro k st hk hkT hs hn
    unfold md_ch at hs hn
    refine br_f (nI_pos (by omega)) ⟨M + 1, ?_⟩
    refine md_y63 post _ hM (fun z => ?_) (fun z => ?_) M 0 (by omega)
    · rw [if_pos z] at hs
      exact hs _ _ rfl
    · rw [if_neg z] at hs hn
      unfold wY_resolveClassMethod_135
      refine md_yfd hM _ ?_
      by_cases hf : md_fd ow nm ds (nI k) n d M 0 < 0
      · rw [if_pos hf] at hs hn
        refine br_t hf ⟨vp_in_nI (by omega) (by omega), ?_⟩
        by_cases h0 : k = 0
        · rw [if_pos h0] at hs hn
          refine nm_r (e' := -1) (by rw [h0]; rfl) ?_
          refine br_t (by decide) ?_
          exact hn rfl 322 _ (fun r s oz h => h)
        · rw [if_neg h0] at hs hn
          have hlt2 := hS k (by omega) (by omega) hkT
          exact nm_r (e' := nI (S k)) (md_s0 (by omega) (by omega)) (ih (S k) 322 (by omega) (by omega) hs hn)
      · rw [if_neg hf] at hs
        exact br_f hf (hs _ _ rfl)
theorem md_fl9a : ∀ j, j < 16 → (nI j &&& 9 = 1 ↔ (¬ nI j &&& 1 = 0 ∧ nI j &&& 8 = 0)) := by decide +kernel
theorem md_fl9 (x : Int32) : x &&& 9 = 1 ↔ (¬ x &&& 1 = 0 ∧ x &&& 8 = 0) := by
  obtain ⟨j, hj, e⟩ := pk_andE x (m := 15) 4 (by decide)
  have e9 : x &&& 9 = nI j &&& 9 := by rw [← e, Int32.and_assoc]; rfl
  have e1 : x &&& 1 = nI j &&& 1 := by rw [← e, Int32.and_assoc]; rfl
  have e8 : x &&& 8 = nI j &&& 8 := by rw [← e, Int32.and_assoc]; rfl
  rw [e9, e1, e8]
  exact md_fl9a j hj
end
end
section
/-! adding a type: list check, store -/
def md_ok (L T : Nat) (fi : Nat → Int32) (k : Nat) : Prop := md_le L (k + 1) < T ∧ ¬ fi (md_le L (k + 1)) = 0
def md_gd (L T : Nat) (fi : Nat → Int32) : Prop := L % 65536 ≤ 3 ∧ ∀ k, k < L % 65536 → md_ok L T fi k
def md_E (E : Nat → Nat) (T L : Nat) : Nat → (Nat → Nat)
  | 0 => E
  | j + 1 => md_u (md_E E T L j) (T * 3 + j) (md_le L (j + 1))
def md_m (K : Nat → Nat) (L a : Nat) : Nat → Nat
  | 0 => a
  | j + 1 => md_m K L a j ||| (2 ^ md_le L (j + 1) ||| K (md_le L (j + 1)))
theorem md_le_lt (L k : Nat) : md_le L k < 65536 := Nat.mod_lt _ (by decide)
theorem md_m_a {K : Nat → Nat} {L a : Nat} : ∀ j, md_m K L a j = md_m K L 0 j ||| a := by
  intro j
  induction j with
  | zero => unfold md_m; rw [Nat.zero_or]
  | succ j ih =>
    unfold md_m
    rw [ih, Nat.or_assoc, Nat.or_assoc, Nat.or_comm a]
theorem md_m_t {K : Nat → Nat} {L : Nat} {i : Nat} : ∀ j, (md_m K L 0 j).testBit i = true ↔ ∃ k, k < j ∧ (md_le L (k + 1) = i ∨ (K (md_le L (k + 1))).testBit i = true) := by
  intro j
  induction j with
  | zero =>
    unfold md_m
    rw [Nat.zero_testBit]
    exact ⟨fun z => absurd z (by decide), fun ⟨k, h, _⟩ => absurd h (by omega)⟩
  | succ j ih =>
    unfold md_m
    rw [Nat.testBit_or, Nat.testBit_or, Nat.testBit_two_pow, Bool.or_eq_true, Bool.or_eq_true, ih, decide_eq_true_iff]
    constructor
    · rintro (⟨k, h1, h2⟩ | h)
      · exact ⟨k, by omega, h2⟩
      · exact ⟨j, by omega, h⟩
    · rintro ⟨k, h1, h2⟩
      rcases Nat.lt_or_ge k j with g | g
      · exact Or.inl ⟨k, g, h2⟩
      · have e : k = j := by omega
        rw [e] at h2
        exact Or.inr h2
theorem md_m_lt {K : Nat → Nat} {L a : Nat} (ha : a < 64) : ∀ j, (∀ k, k < j → md_le L (k + 1) < 6 ∧ K (md_le L (k + 1)) < 64) → md_m K L a j < 64 := by
  intro j
  induction j with
  | zero => intro _; exact ha
  | succ j ih =>
    intro h
    unfold md_m
    obtain ⟨h1, h2⟩ := h j (by omega)
    have h3 : 2 ^ md_le L (j + 1) < 2 ^ 6 := Nat.pow_lt_pow_right (by decide) h1
    exact Nat.or_lt_two_pow (n := 6) (ih (fun k hk => h k (by omega))) (Nat.or_lt_two_pow h3 h2)
theorem md_E_lo {E : Nat → Nat} {T L : Nat} {x : Nat} (hx : x < T * 3) : ∀ j, md_E E T L j x = E x := by
  intro j
  induction j with
  | zero => rfl
  | succ j ih =>
    unfold md_E
    rw [md_un (by omega), ih]
theorem md_E_hi {E : Nat → Nat} {T L : Nat} {k : Nat} : ∀ j, k < j → md_E E T L j (T * 3 + k) = md_le L (k + 1) := by
  intro j
  induction j with
  | zero => intro h; omega
  | succ j ih =>
    intro h
    unfold md_E
    by_cases e : k = j
    · rw [e, md_us]
    · rw [md_un (by omega), ih (by omega)]
theorem md_I_add {T M : Nat} {S D E K O : Nat → Nat} {fi nm ds : Nat → Int32} {s L : Nat} {x : Int32} (I : md_I T M S D E K O fi nm ds) (hT : T < 6) (hs : s < T) (hfs : fi s = 0) (hx : ¬ x = 0 → s = 0) (hg : md_gd L T fi) : md_I (T + 1) M (md_u S T s) (md_u D T (L % 65536)) (md_E E T L (L % 65536)) (md_u K T (md_m K L (K s) (L % 65536))) O (upd fi T x) nm ds := by
  obtain ⟨hT1, hT6, hM, hS0, hD0, hK0, hf0, hS, hSf, hSi, hD, hDz, hE, hK, hKb, hKe, hO, hu⟩ := I
  obtain ⟨hc, hok⟩ := hg
  have hSlt : ∀ j, j < T → S j < T := by
    intro j hj
    rcases Nat.eq_zero_or_pos j with e | e
    · rw [e, hS0]; omega
    · have := hS j e hj; omega
  refine ⟨by omega, by omega, hM, ?_, ?_, ?_, ?_, ?_, ?_, ?_, ?_, ?_, ?_, ?_, ?_, ?_, ?_, hu⟩
  · rw [md_un (by omega)]; exact hS0
  · rw [md_un (by omega)]; exact hD0
  · rw [md_un (by omega)]; exact hK0
  · rw [pk_un (by omega)]; exact hf0
  · intro j h0 hj
    by_cases e : j = T
    · rw [e, md_us]; exact hs
    · rw [md_un e]; exact hS j h0 (by omega)
  · intro j hj
    by_cases e : j = T
    · rw [e, md_us, pk_un (by omega)]; exact hfs
    · have := hSlt j (by omega)
      rw [md_un e, pk_un (by omega)]; exact hSf j (by omega)
  · intro j hj hf
    by_cases e : j = T
    · rw [e, pk_us] at hf
      rw [e, md_us]; exact hx hf
    · rw [pk_un e] at hf
      rw [md_un e]; exact hSi j (by omega) hf
  · intro j hj
    by_cases e : j = T
    · rw [e, md_us]; exact hc
    · rw [md_un e]; exact hD j (by omega)
  · intro j hj
    rw [md_un (by omega)]; exact hDz j (by omega)
  · intro j hj k hk
    by_cases e : j = T
    · rw [e, md_us] at hk
      obtain ⟨o1, o2⟩ := hok k hk
      rw [e, md_E_hi _ hk, pk_un (by omega)]
      exact ⟨o1, o2⟩
    · rw [md_un e] at hk
      have hd := hD j (by omega)
      obtain ⟨o1, o2⟩ := hE j (by omega) k hk
      rw [md_E_lo (by omega), pk_un (by omega)]
      exact ⟨o1, o2⟩
  · intro j hj
    by_cases e : j = T
    · rw [e, md_us]
      exact md_m_lt (hK s hs) _ (fun k hk => ⟨by have := (hok k hk).1; omega, hK _ (hok k hk).1⟩)
    · rw [md_un e]; exact hK j (by omega)
  · intro j hj i hi
    by_cases e : j = T
    · rw [e, md_us, md_m_a, Nat.testBit_or, Bool.or_eq_true, md_m_t] at hi
      have key : i < T ∧ ¬ fi i = 0 := by
        rcases hi with ⟨k, h1, h2⟩ | h
        · obtain ⟨o1, o2⟩ := hok k h1
          rcases h2 with h2 | h2
          · rw [← h2]; exact ⟨o1, o2⟩
          · obtain ⟨b1, b2⟩ := hKb _ o1 i h2
            exact ⟨by omega, b2⟩
        · obtain ⟨b1, b2⟩ := hKb _ hs i h
          exact ⟨by omega, b2⟩
      rw [e, pk_un (by omega)]
      exact key
    · rw [md_un e] at hi
      obtain ⟨b1, b2⟩ := hKb j (by omega) i hi
      rw [pk_un (by omega)]
      exact ⟨b1, b2⟩
  · intro j hj i
    by_cases e : j = T
    · subst e
      rw [md_us, md_us, md_us, md_un (show s ≠ j by omega), md_m_a, Nat.testBit_or, Bool.or_eq_true, md_m_t]
      refine or_congr ⟨fun z => ?_, fun z => ?_⟩ Iff.rfl
      · obtain ⟨k, h1, h2⟩ := z
        refine ⟨k, h1, ?_⟩
        rw [md_E_hi _ h1, md_un (by have := (hok k h1).1; omega)]
        exact h2
      · obtain ⟨k, h1, h2⟩ := z
        rw [md_E_hi _ h1, md_un (by have := (hok k h1).1; omega)] at h2
        exact ⟨k, h1, h2⟩
    · have hsl := hSlt j (by omega)
      have hd := hD j (by omega)
      rw [md_un e, md_un e, md_un e, md_un (show S j ≠ T by omega), hKe j (by omega) i]
      refine or_congr ⟨fun z => ?_, fun z => ?_⟩ Iff.rfl
      · obtain ⟨k, h1, h2⟩ := z
        refine ⟨k, h1, ?_⟩
        rw [md_E_lo (by omega), md_un (by have := (hE j (by omega) k h1).1; omega)]
        exact h2
      · obtain ⟨k, h1, h2⟩ := z
        rw [md_E_lo (by omega), md_un (by have := (hE j (by omega) k h1).1; omega)] at h2
        exact ⟨k, h1, h2⟩
  · intro i hi
    have := hO i hi
    omega
section
variable {tc mc st : Int32} {sp fi dc di mk wa ow nm ds fl sg so oz : Nat → Int32} {up : Nat → Int64} {T M : Nat} {S D E K O : Nat → Nat} {L s c : Nat}
theorem md_x17 (hL : L < 2 ^ 64) (hc : c ≤ 3) (hT : T ≤ 6) (post : Int32 → Prop) : ∀ r j, j + r = c → ((∀ k, j ≤ k → k < c → md_ok L T fi k) → post 1) → (¬ (∀ k, j ≤ k → k < c → md_ok L T fi k) → post 0) → wX_listOk_17 post (lN L) (nI c) (nI T) mc st sp fi dc di mk wa ow nm ds fl sg (r + 1) (nI (j + 1)) := by
  intro r
  induction r with
  | zero =>
    intro j hj h1 h0
    exact br_t (nI_lt (by omega) (by omega)) (h1 (fun k g1 g2 => absurd g2 (by omega)))
  | succ r ih =>
    intro j hj h1 h0
    have hlt : ¬ nI c < nI (j + 1) := nI_nlt (by omega) (by omega)
    have hl := md_le_lt L (j + 1)
    refine br_f hlt (nm_r (md_xe hL (by omega)) (pk_lt (md_le L (j + 1)) T (fun g => ⟨vp_in_nI (by omega) (by omega), ?_⟩) (fun g => h0 (fun z => ?_))))
    · have ec : (nI (md_le L (j + 1))).toNatClampNeg = md_le L (j + 1) := nI_clamp (by omega)
      by_cases hf : fi (nI (md_le L (j + 1))).toNatClampNeg = 0
      · refine br_t hf (h0 (fun z => (z j (Nat.le_refl _) (by omega)).2 ?_))
        rw [ec] at hf
        exact hf
      · refine br_f hf (nm_r (nI_1 (j + 1)) (ih (j + 1) (by omega) (fun z => h1 (fun k g1 g2 => ?_)) (fun z => h0 (fun w => z (fun k g1 g2 => w k (by omega) g2)))))
        rcases Nat.lt_or_ge j k with y | y
        · exact z k (by omega) g2
        · have e : k = j := by omega
          rw [e]
          rw [ec] at hf
          exact ⟨g, hf⟩
    · have := (z j (Nat.le_refl _) (by omega)).1
      omega
theorem md_xlist (hL : L < 2 ^ 64) (hT : T ≤ 6) (post : Int32 → Prop) (h1 : md_gd L T fi → post 1) (h0 : ¬ md_gd L T fi → post 0) : wpX_listOk post (nI T, mc, st, sp, fi, dc, di, mk, wa, ow, nm, ds, fl, sg) (lN L) := by
  unfold wpX_listOk
  dsimp only
  refine nm_r (md_xn hL) (pk_le (L % 65536) 3 (fun g => ⟨L % 65536 + 1, ?_⟩) (fun g => h0 (fun z => absurd z.1 (by omega))))
  exact md_x17 hL g hT post (L % 65536) 0 (by omega) (fun z => h1 ⟨g, fun k hk => z k (Nat.zero_le _) hk⟩) (fun z => h0 (fun w => z (fun k _ hk => w.2 k hk)))
theorem md_x96 {x : Int32} {m : Nat} (post : Int32 → SX → Prop) (hT : T < 6) (hs : s < 6) (hc : c < 6) (h : post (nI T) (nI (T + 1), mc, st, md_a (md_u S T s), upd fi T (vp_nar .boolean x), md_a (md_u D T c), di, md_a (md_u K T m), wa, ow, nm, ds, fl, sg)) : wX_store_96 post (nI s) x (nI T) (nI c) (nI m) tc mc st (md_a S) fi (md_a D) di (md_a K) wa ow nm ds fl sg := by
  have hin : vp_in (nI T) 6 := vp_in_nI hT (by omega)
  unfold wX_store_96
  refine ⟨hin, nm_r (e' := md_a (md_u S T s)) (by rw [md_vb hs]; exact md_au (by omega)) ⟨hin, nm_r (e' := upd fi T (vp_nar .boolean x)) (by rw [nI_clamp (by omega)]) ⟨hin, nm_r (e' := md_a (md_u D T c)) (by rw [md_vb hc]; exact md_au (by omega)) ⟨hin, nm_r (e' := md_a (md_u K T m)) (md_au (by omega)) (nm_r (nI_1 T) h)⟩⟩⟩⟩
theorem md_xst {x : Int32} (post : Int32 → SX → Prop) (hL : L < 2 ^ 64) (hT : T < 6) (hs : s < T) (hc : c ≤ 3) (hK0 : K 0 = 0) (hx : ¬ x = 0 → s = 0) (hok : ∀ k, k < c → md_le L (k + 1) < T) (h : post (nI T) (nI (T + 1), mc, st, md_a (md_u S T s), upd fi T (vp_nar .boolean x), md_a (md_u D T c), md_a (md_E E T L c), md_a (md_u K T (md_m K L (K s) c)), wa, ow, nm, ds, fl, sg)) : ∀ r j, j + r = c → wX_store_20 post (nI s) x (lN L) (nI T) (nI c) tc mc st (r + 1) (nI (md_m K L 0 j)) (nI (j + 1)) (md_a S) fi (md_a D) (md_a (md_E E T L j)) (md_a K) wa ow nm ds fl sg := by
  intro r
  induction r with
  | zero =>
    intro j hj
    have e : j = c := by omega
    subst e
    refine br_t (nI_lt (by omega) (by omega)) ?_
    have em := md_m_a (K := K) (L := L) (a := K s) j
    by_cases hx0 : x = 0
    · refine br_t hx0 ⟨vp_in_nI (by omega) (by omega), nm_r (e' := nI (md_m K L (K s) j)) ?_ (md_x96 post hT (by omega) (by omega) h)⟩
      rw [md_at (by omega), md_or, em]
    · refine br_f hx0 ?_
      rw [hx hx0, hK0, Nat.or_zero] at em
      rw [hx hx0] at h ⊢
      rw [hK0, em] at h
      exact md_x96 post hT (by omega) (by omega) h
  | succ r ih =>
    intro j hj
    have hlt : ¬ nI c < nI (j + 1) := nI_nlt (by omega) (by omega)
    have he := hok j (by omega)
    have ej : nI T * 3 + (nI (j + 1) - 1) = nI (T * 3 + j) := by
      rw [nI_pred, show nI T * 3 = nI (T * 3) from pk_mul T 3, nI_add]
    refine br_f hlt (nm_r (md_xe hL (by omega)) ⟨?_, nm_r (e' := md_a (md_E E T L (j + 1))) ?_ ⟨vp_in_nI (by omega) (by omega), nm_r (e' := nI (md_m K L 0 (j + 1))) ?_ (nm_r (nI_1 (j + 1)) (ih (j + 1) (by omega)))⟩⟩)
    · rw [ej]; exact vp_in_nI (by omega) (by omega)
    · rw [ej, md_vc (by omega)]; exact md_au (by omega)
    · rw [md_sl _ (by omega), md_at (by omega), md_or, md_or, Nat.or_assoc]
      rfl
theorem md_xstore {x : Int32} (post : Int32 → SX → Prop) (hL : L < 2 ^ 64) (hT : T < 6) (hs : s < T) (hK0 : K 0 = 0) (hx : ¬ x = 0 → s = 0) (hg : md_gd L T fi) (h : post (nI T) (nI (T + 1), mc, st, md_a (md_u S T s), upd fi T (vp_nar .boolean x), md_a (md_u D T (L % 65536)), md_a (md_E E T L (L % 65536)), md_a (md_u K T (md_m K L (K s) (L % 65536))), wa, ow, nm, ds, fl, sg)) : wpX_store post (nI T, mc, st, md_a S, fi, md_a D, md_a E, md_a K, wa, ow, nm, ds, fl, sg) (nI s) x (lN L) := by
  unfold wpX_store
  dsimp only
  refine nm_r (md_xn hL) ⟨L % 65536 + 1, ?_⟩
  exact md_xst post hL hT hs hg.1 hK0 hx (fun k hk => (hg.2 k hk).1) h (L % 65536) 0 (by omega)
theorem md_y155 (post : Int32 → SY → Prop) (hL : L < 2 ^ 64) (hT : T < 6) (hc : c ≤ 3) (hok : ∀ k, k < c → md_le L (k + 1) < T) (h : post (nI T) (tc, mc, st, so, md_a (md_u D T c), ow, fi, sg, md_a (md_E E T L c), fl, nm, ds, oz, md_l (md_u K T (md_m K L (K s) c)))) : ∀ r j, j + r = c → wY_add_155 post (lN L) (nI c) (nI T) tc mc st (r + 1) (nI (j + 1)) so (md_a (md_u D T j)) ow fi sg (md_a (md_E E T L j)) fl nm ds oz (md_l (md_u K T (md_m K L (K s) j))) := by
  have hin : vp_in (nI T) 6 := vp_in_nI hT (by omega)
  intro r
  induction r with
  | zero =>
    intro j hj
    have e : j = c := by omega
    subst e
    exact br_t (nI_lt (by omega) (by omega)) h
  | succ r ih =>
    intro j hj
    have hlt : ¬ nI c < nI (j + 1) := nI_nlt (by omega) (by omega)
    have he := hok j (by omega)
    have ed : md_a (md_u D T j) (nI T).toNatClampNeg = nI j := by rw [md_at (by omega), md_us]
    have ej : nI T * 3 + md_a (md_u D T j) (nI T).toNatClampNeg = nI (T * 3 + j) := by
      rw [ed, show nI T * 3 = nI (T * 3) from pk_mul T 3, nI_add]
    refine br_f hlt (nm_r (md_yc hL (by omega)) ⟨hin, hin, nm_r (e' := md_a (md_u D T (j + 1))) ?_ ⟨?_, nm_r (e' := md_a (md_E E T L (j + 1))) ?_ ⟨hin, vp_in_nI (by omega) (by omega), hin, nm_r (e' := md_l (md_u K T (md_m K L (K s) (j + 1)))) ?_ (nm_r (nI_1 (j + 1)) (ih (j + 1) (by omega)))⟩⟩⟩)
    · rw [ed, nI_1, md_vb (by omega), md_au (by omega), md_uu]
    · rw [ej]; exact vp_in_nI (by omega) (by omega)
    · rw [ej, md_vc1 (by omega)]; exact md_au (by omega)
    · rw [md_slL _ (by omega), md_lt (by omega), md_lt (by omega), md_us, md_un (by omega), md_orL, md_orL, md_lu (by omega), md_uu]
      rfl
theorem md_y61 {x : Int32} (post : Int32 → SY → Prop) (hL : L < 2 ^ 64) (hT1 : 0 < T) (hT : T < 6) (hs : s < T) (hc : c ≤ 3) (hDT : D T = 0) : ∀ r j, j + r = c → (∀ k, k < j → md_le L (k + 1) < T) → ((∀ k, j ≤ k → k < c → md_ok L T fi k) → post (nI T) (nI (T + 1), mc, st, upd (md_a (md_u S T s)) 0 (-1), md_a (md_u D T c), ow, upd fi T (vp_nar .boolean x), sg, md_a (md_E E T L c), fl, nm, ds, oz, md_l (md_u K T (md_m K L (K s) c)))) → (¬ (∀ k, j ≤ k → k < c → md_ok L T fi k) → post (-3) (nI T, mc, st, upd (md_a S) 0 (-1), md_a D, ow, fi, sg, md_a E, fl, nm, ds, oz, md_l K)) → wY_add_61 post (nI s) x (lN L) (nI c) (nI T) mc st (upd (md_a S) 0 (-1)) (md_a D) ow fi sg (md_a E) fl nm ds oz (md_l K) (r + 1) (nI (j + 1)) := by
  have hin : vp_in (nI T) 6 := vp_in_nI hT (by omega)
  intro r
  induction r with
  | zero =>
    intro j hj hlo h1 h0
    have e : j = c := by omega
    subst e
    refine br_t (nI_lt (by omega) (by omega)) (nm_r (nI_1 T) ⟨hin, nm_r (e' := upd (md_a (md_u S T s)) 0 (-1)) (by rw [md_vb (by omega)]; exact md_su hT1 (by omega)) ⟨hin, nm_r (e' := upd fi T (vp_nar .boolean x)) (by rw [nI_clamp (by omega)]) ⟨vp_in_nI (by omega) (by omega), hin, nm_r (e' := md_l (md_u K T (K s))) (by rw [md_lt (by omega)]; exact md_lu (by omega)) ⟨j + 1, ?_⟩⟩⟩⟩)
    have z := md_y155 (tc := nI (T + 1)) (mc := mc) (st := st) (so := upd (md_a (md_u S T s)) 0 (-1)) (ow := ow) (fi := upd fi T (vp_nar .boolean x)) (sg := sg) (fl := fl) (nm := nm) (ds := ds) (oz := oz) (D := D) (E := E) (K := K) (s := s) post hL hT hc hlo (h1 (fun k g1 g2 => absurd g2 (by omega))) j 0 (by omega)
    rw [md_uid hDT] at z
    exact z
  | succ r ih =>
    intro j hj hlo h1 h0
    have hlt : ¬ nI c < nI (j + 1) := nI_nlt (by omega) (by omega)
    have hl := md_le_lt L (j + 1)
    refine br_f hlt (nm_r (md_ye hL (by omega)) (pk_le T (md_le L (j + 1)) (fun g => h0 (fun z => ?_)) (fun g => ⟨vp_in_nI (by omega) (by omega), ?_⟩)))
    · have := (z j (Nat.le_refl _) (by omega)).1
      omega
    · have ec : (nI (md_le L (j + 1))).toNatClampNeg = md_le L (j + 1) := nI_clamp (by omega)
      by_cases hf : fi (nI (md_le L (j + 1))).toNatClampNeg = 0
      · refine br_t hf (h0 (fun z => (z j (Nat.le_refl _) (by omega)).2 ?_))
        rw [ec] at hf
        exact hf
      · refine br_f hf (nm_r (nI_1 (j + 1)) (ih (j + 1) (by omega) (fun k hk => ?_) (fun z => h1 (fun k g1 g2 => ?_)) (fun z => h0 (fun w => z (fun k g1 g2 => w k (by omega) g2)))))
        · rcases Nat.lt_or_ge k j with y | y
          · exact hlo k y
          · have e : k = j := by omega
            rw [e]; exact g
        · rcases Nat.lt_or_ge j k with y | y
          · exact z k (by omega) g2
          · have e : k = j := by omega
            rw [e]
            rw [ec] at hf
            exact ⟨g, hf⟩
theorem md_yadd {x : Int32} (post : Int32 → SY → Prop) (hL : L < 2 ^ 64) (hT1 : 0 < T) (hT : T < 6) (hs : s < T) (hfs : fi s = 0) (hDT : D T = 0)
    (h1 : md_gd L T fi → post (nI T) (nI (T + 1), mc, st, upd (md_a (md_u S T s)) 0 (-1), md_a (md_u D T (L % 65536)), ow, upd fi T (vp_nar .boolean x), sg, md_a (md_E E T L (L % 65536)), fl, nm, ds, oz, md_l (md_u K T (md_m K L (K s) (L % 65536)))))
    (h0 : ¬ md_gd L T fi → post (-3) (nI T, mc, st, upd (md_a S) 0 (-1), md_a D, ow, fi, sg, md_a E, fl, nm, ds, oz, md_l K)) : wpY_add post (nI T, mc, st, upd (md_a S) 0 (-1), md_a D, ow, fi, sg, md_a E, fl, nm, ds, oz, md_l K) (nI s) x (lN L) := by
  unfold wpY_add
  dsimp only
  refine br_t (nI_lt (b := 6) hT (by decide)) (br_f (nI_pos (by omega)) (br_f (nI_ge hs (by omega)) ⟨vp_in_nI (by omega) (by omega), br_t (by rw [nI_clamp (by omega)]; exact hfs) (ek_if (md_yn3 hL) (fun g => nm_r (md_yn L) ⟨L % 65536 + 1, ?_⟩) (fun g => h0 (fun z => g z.1)))⟩))
  exact md_y61 post hL hT1 hT hs g hDT (L % 65536) 0 (by omega) (fun k hk => absurd hk (by omega)) (fun z => h1 ⟨g, fun k hk => z k (Nat.zero_le _) hk⟩) (fun z => h0 (fun w => z (fun k _ hk => w.2 k hk)))
end
end
section
/-! what is owed (the statements of claim/defs.txt) -/
/-- the relation at the head of a turn whose first cell is k: one abstract state, seen from both sides -/
def i_Rel (_ : Nat) (u : SX) (v : SY) : Prop := ∃ (T M : Nat) (st : Int32) (S D E K O : Nat → Nat) (fi nm ds fl sg wa oz : Nat → Int32), u = (nI T, nI M, st, md_a S, fi, md_a D, md_a E, md_a K, wa, md_a O, nm, ds, fl, sg) ∧ v = (nI T, nI M, st, upd (md_a S) 0 (-1), md_a D, md_a O, fi, sg, md_a E, fl, nm, ds, oz, md_l K) ∧ md_I T M S D E K O fi nm ds
theorem md_rel {k T M : Nat} {st : Int32} {S D E K O : Nat → Nat} {fi nm ds fl sg wa oz : Nat → Int32} (I : md_I T M S D E K O fi nm ds) : i_Rel k (nI T, nI M, st, md_a S, fi, md_a D, md_a E, md_a K, wa, md_a O, nm, ds, fl, sg) (nI T, nI M, st, upd (md_a S) 0 (-1), md_a D, md_a O, fi, sg, md_a E, fl, nm, ds, oz, md_l K) := ⟨T, M, st, S, D, E, K, O, fi, nm, ds, fl, sg, wa, oz, rfl, rfl, I⟩
theorem i_up {k : Nat} {u : SX} {v : SY} (h : i_Rel k u v) : i_Rel (k + 6) u v := h
theorem md_i0 : md_I 1 0 (fun _ => 0) (fun _ => 0) (fun _ => 0) (fun _ => 0) (fun _ => 0) (fun _ => 0) (fun _ => 0) (fun _ => 0) := by
  refine ⟨by omega, by omega, by omega, rfl, rfl, rfl, rfl, fun j h0 h => by omega, fun _ _ => rfl, fun _ _ _ => rfl, fun _ _ => Nat.zero_le _, fun _ _ => rfl, fun j _ k hk => absurd hk (Nat.not_lt_zero k), fun _ _ => Nat.zero_lt_succ 63, fun j _ i h => ?_, fun j _ i => ⟨fun h => Or.inr h, fun h => h.elim (fun ⟨k, hk, _⟩ => absurd hk (Nat.not_lt_zero k)) id⟩, fun i hi => absurd hi (Nat.not_lt_zero i), fun i hi => absurd hi (Nat.not_lt_zero i)⟩
  rw [Nat.zero_testBit] at h
  exact absurd h (by decide)
theorem md_z0 {x : Int32} (h : x = 0) : upd (fun _ => 0) 0 x = md_a (fun _ => 0) := by
  funext j
  unfold upd
  by_cases e : j = 0
  · rw [if_pos e, h]; exact nI_0.symm
  · rw [if_neg e]; exact nI_0.symm
theorem md_z1 : md_a (fun _ => 0) = (fun _ => 0) := by
  funext j
  exact nI_0
theorem md_z2 : md_l (fun _ => 0) = (fun _ => 0) := rfl
theorem i_vc0 : wpX_init (fun u => wpY_init (fun v => i_Rel 0 u v)) := by
  have eb : vp_nar .byte 0 = 0 := by rw [vp_nar_byte]; decide
  have em : vp_nar .byte (-1) = -1 := by rw [vp_nar_byte]; decide
  unfold wpX_init
  refine nm_r (md_z0 eb) (nm_r (e' := fun _ => 0) ((md_z0 rfl).trans md_z1) (nm_r (md_z0 eb) (nm_r (md_z0 rfl) ?_)))
  unfold wpY_init
  refine nm_r (e' := upd (md_a (fun _ => 0)) 0 (-1)) (by rw [em, md_z1]) ?_
  have z := md_rel (k := 0) (st := 0) (fl := fun _ => 0) (sg := fun _ => 0) (wa := fun _ => 0) (oz := fun _ => 0) md_i0
  rw [md_z1, md_z2] at z
  rw [md_z1]
  exact z
theorem i_vc_addClass {k : Nat} {u : SX} {v : SY} (I : i_Rel k u v) (hk : k + 6 ≤ 3072) (v1 : Int32) (a1 : Int64) : wpX_addClass (fun r u' => wpY_addClass (fun r' v' => r' = r ∧ i_Rel (k + 6) u' v') v v1 a1) u v1 a1 := by
  obtain ⟨T, M, st, S, D, E, K, O, fi, nm, ds, fl, sg, wa, oz, rfl, rfl, I⟩ := I
  have R := md_rel (k := k + 6) (st := st) (fl := fl) (sg := sg) (wa := wa) (oz := oz) I
  have I' := I
  obtain ⟨hT1, hT6, hM, hS0, hD0, hK0, hf0, hS, hSf, hSi, hD, hDz, hE, hK, hKb, hKe, hO, hu⟩ := I'
  obtain ⟨L, hL, rfl⟩ := wb_of a1
  unfold wpX_addClass wpY_addClass
  dsimp only
  by_cases hT : T < 6
  · have h6 : nI T < 6 := nI_lt (b := 6) hT (by decide)
    refine br_t h6 ?_
    by_cases hn : v1 < 0
    · refine br_t hn ?_
      unfold wpY_add
      exact br_t h6 (br_t hn ⟨rfl, R⟩)
    · obtain ⟨s, hs, rfl⟩ := nI_of hn
      refine br_f hn ?_
      by_cases hst : s < T
      · refine br_t (nI_lt hst (by omega)) ⟨vp_in_nI (by omega) (by omega), ?_⟩
        have ec : (nI s).toNatClampNeg = s := nI_clamp hs
        by_cases hf : fi (nI s).toNatClampNeg = 0
        · have hf' : fi s = 0 := by rw [ec] at hf; exact hf
          refine br_t hf ?_
          refine md_xlist hL hT6 _ (fun g => ?_) (fun g => ?_)
          · refine br_f (by decide) ?_
            refine md_xstore _ hL hT hst hK0 (fun z => absurd rfl z) g ?_
            refine md_yadd _ hL (by omega) hT hst hf' (hDz T (Nat.le_refl _)) (fun _ => ⟨rfl, ?_⟩) (fun z => absurd g z)
            exact md_rel (md_I_add I hT hst hf' (fun z => absurd rfl z) g)
          · refine br_t rfl ?_
            exact md_yadd _ hL (by omega) hT hst hf' (hDz T (Nat.le_refl _)) (fun z => absurd z g) (fun _ => ⟨rfl, R⟩)
        · refine br_f hf ?_
          unfold wpY_add
          exact br_t h6 (br_f hn (br_f (nI_ge hst (by omega)) ⟨vp_in_nI (by omega) (by omega), br_f hf ⟨rfl, R⟩⟩))
      · refine br_f (nI_nlt (by omega) hs) ?_
        unfold wpY_add
        exact br_t h6 (br_f hn (br_t (nI_le (by omega) hs) ⟨rfl, R⟩))
  · have h6 : ¬ nI T < 6 := nI_nlt (b := 6) (by omega) (by omega)
    refine br_f h6 ?_
    unfold wpY_add
    exact br_f h6 ⟨rfl, R⟩
theorem i_vc_addIface {k : Nat} {u : SX} {v : SY} (I : i_Rel k u v) (hk : k + 6 ≤ 3072) (a0 : Int64) : wpX_addIface (fun r u' => wpY_addIface (fun r' v' => r' = r ∧ i_Rel (k + 6) u' v') v a0) u a0 := by
  obtain ⟨T, M, st, S, D, E, K, O, fi, nm, ds, fl, sg, wa, oz, rfl, rfl, I⟩ := I
  have R := md_rel (k := k + 6) (st := st) (fl := fl) (sg := sg) (wa := wa) (oz := oz) I
  have I' := I
  obtain ⟨hT1, hT6, hM, hS0, hD0, hK0, hf0, hS, hSf, hSi, hD, hDz, hE, hK, hKb, hKe, hO, hu⟩ := I'
  obtain ⟨L, hL, rfl⟩ := wb_of a0
  unfold wpX_addIface wpY_addIface
  dsimp only
  by_cases hT : T < 6
  · have h6 : nI T < 6 := nI_lt (b := 6) hT (by decide)
    refine br_t h6 ?_
    refine md_xlist hL hT6 _ (fun g => ?_) (fun g => ?_)
    · refine br_f (by decide) ?_
      refine md_xstore (s := 0) _ hL hT (by omega) hK0 (fun _ => rfl) g ?_
      refine md_yadd (s := 0) _ hL (by omega) hT (by omega) hf0 (hDz T (Nat.le_refl _)) (fun _ => ⟨rfl, ?_⟩) (fun z => absurd g z)
      exact md_rel (md_I_add I hT (by omega) hf0 (fun _ => rfl) g)
    · refine br_t rfl ?_
      exact md_yadd (s := 0) _ hL (by omega) hT (by omega) hf0 (hDz T (Nat.le_refl _)) (fun z => absurd z g) (fun _ => ⟨rfl, R⟩)
  · have h6 : ¬ nI T < 6 := nI_nlt (b := 6) (by omega) (by omega)
    refine br_f h6 ?_
    unfold wpY_add
    exact br_f h6 ⟨rfl, R⟩
theorem md_I_meth {T M o : Nat} {S D E K O : Nat → Nat} {fi nm ds : Nat → Int32} {n d : Int32} (I : md_I T M S D E K O fi nm ds) (hM8 : M < 8) (ho : o < T) (hnew : ∀ i, i < M → O i = o → nm i = n → ds i = d → False) : md_I T (M + 1) S D E K (md_u O M o) fi (upd nm M n) (upd ds M d) := by
  obtain ⟨hT1, hT6, hM, hS0, hD0, hK0, hf0, hS, hSf, hSi, hD, hDz, hE, hK, hKb, hKe, hO, hu⟩ := I
  refine ⟨hT1, hT6, by omega, hS0, hD0, hK0, hf0, hS, hSf, hSi, hD, hDz, hE, hK, hKb, hKe, ?_, ?_⟩
  · intro i hi
    by_cases e : i = M
    · rw [e, md_us]; exact ho
    · rw [md_un e]; exact hO i (by omega)
  · intro i hi i' hi' h1 h2 h3
    by_cases e : i = M
    · by_cases e' : i' = M
      · omega
      · rw [e, md_us, md_un e'] at h1
        rw [e, pk_us, pk_un e'] at h2 h3
        exact absurd (hnew i' (by omega) h1.symm h2.symm h3.symm) id
    · by_cases e' : i' = M
      · rw [e', md_us, md_un e] at h1
        rw [e', pk_us, pk_un e] at h2 h3
        exact absurd (hnew i (by omega) h1 h2 h3) id
      · rw [md_un e, md_un e'] at h1
        rw [pk_un e, pk_un e'] at h2 h3
        exact hu i (by omega) i' (by omega) h1 h2 h3
theorem i_vc_addMethod {k : Nat} {u : SX} {v : SY} (I : i_Rel k u v) (hk : k + 6 ≤ 3072) (v1 : Int32) (v2 : Int32) (v3 : Int32) (v4 : Int32) (v5 : Int32) : wpX_addMethod (fun r u' => wpY_addMethod (fun r' v' => r' = r ∧ i_Rel (k + 6) u' v') v v1 v2 v3 v4 (lw_bz v5)) u v1 v2 v3 v4 (lw_bz v5) := by
  obtain ⟨T, M, st, S, D, E, K, O, fi, nm, ds, fl, sg, wa, oz, rfl, rfl, I⟩ := I
  have R := md_rel (k := k + 6) (st := st) (fl := fl) (sg := sg) (wa := wa) (oz := oz) I
  have I' := I
  obtain ⟨hT1, hT6, hM, hS0, hD0, hK0, hf0, hS, hSf, hSi, hD, hDz, hE, hK, hKb, hKe, hO, hu⟩ := I'
  unfold wpX_addMethod wpY_addMethod
  dsimp only
  by_cases hM8 : M < 8
  · have h8 : nI M < 8 := nI_lt (b := 8) hM8 (by decide)
    refine br_t h8 ?_
    by_cases hn : v1 < 0
    · exact br_t hn (br_t h8 (br_t hn ⟨rfl, R⟩))
    · obtain ⟨o, ho, rfl⟩ := nI_of hn
      refine br_f hn ?_
      by_cases hoT : o < T
      · have hot : nI o < nI T := nI_lt hoT (by omega)
        have hin : vp_in (nI M) 8 := vp_in_nI hM8 (by omega)
        have ec : (nI M).toNatClampNeg = M := nI_clamp (by omega)
        refine br_t hot ?_
        refine md_xfd hM _ ?_
        by_cases hf : md_fd (md_a O) nm ds (nI o) v2.toInt16.toInt32 v3.toInt16.toInt32 M 0 < 0
        · refine br_t hf ⟨hin, nm_r (e' := md_a (md_u O M o)) (by rw [md_vb (by omega)]; exact md_au (by omega)) ⟨hin, nm_r (e' := upd nm M v2.toInt16.toInt32) (by rw [ec, pk_vs]) ⟨hin, nm_r (e' := upd ds M v3.toInt16.toInt32) (by rw [ec, pk_vs]) ⟨hin, nm_r (e' := upd fl M (vp_nar .char ((v4.toUInt32 % 65536).toInt32))) (by rw [ec]) ⟨hin, nm_r (e' := upd sg M (vp_nar .boolean (lw_bz v5))) (by rw [ec]) (nm_r (nI_1 M) ?_)⟩⟩⟩⟩⟩
          refine br_t h8 (br_f hn (br_t hot ?_))
          refine md_yfd hM _ ?_
          refine br_t hf (nm_r (nI_1 M) ⟨hin, nm_r (e' := md_a (md_u O M o)) (by rw [md_vb (by omega)]; exact md_au (by omega)) ⟨hin, nm_r (e' := upd nm M v2.toInt16.toInt32) (by rw [ec, pk_vs]) ⟨hin, nm_r (e' := upd ds M v3.toInt16.toInt32) (by rw [ec, pk_vs]) ⟨hin, nm_r (e' := upd fl M (vp_nar .char ((v4.toUInt32 % 65536).toInt32))) (by rw [ec]) ⟨hin, nm_r (e' := upd sg M (vp_nar .boolean (lw_bz v5))) (by rw [ec]) ⟨rfl, ?_⟩⟩⟩⟩⟩⟩)
          refine md_rel (md_I_meth I hM8 hoT (fun i hi h1 h2 h3 => ?_))
          rcases md_fd_spec (ow := md_a O) (nm := nm) (ds := ds) (o := nI o) (n := v2.toInt16.toInt32) (d := v3.toInt16.toInt32) M 0 with ⟨_, z⟩ | ⟨j, _, _, _, g4⟩
          · exact z i (Nat.zero_le _) (by omega) ⟨by rw [← h1]; rfl, h2, h3⟩
          · rw [g4] at hf
            exact nI_pos (by omega) hf
        · refine br_f hf (br_t h8 (br_f hn (br_t hot ?_)))
          refine md_yfd hM _ ?_
          exact br_f hf ⟨rfl, R⟩
      · have hot : ¬ nI o < nI T := nI_nlt (by omega) ho
        exact br_f hot (br_t h8 (br_f hn (br_f hot ⟨rfl, R⟩)))
  · have h8 : ¬ nI M < 8 := nI_nlt (b := 8) (by omega) (by omega)
    exact br_f h8 (br_f h8 ⟨rfl, R⟩)
theorem i_vc_resolveClassMethod {k : Nat} {u : SX} {v : SY} (I : i_Rel k u v) (hk : k + 6 ≤ 3072) (v1 : Int32) (v2 : Int32) (v3 : Int32) : wpX_resolveClassMethod (fun r u' => wpY_resolveClassMethod (fun r' v' => r' = r ∧ i_Rel (k + 6) u' v') v v1 v2 v3) u v1 v2 v3 := by
  obtain ⟨T, M, st, S, D, E, K, O, fi, nm, ds, fl, sg, wa, oz, rfl, rfl, I⟩ := I
  have R := fun (st : Int32) (wa oz : Nat → Int32) => md_rel (k := k + 6) (st := st) (fl := fl) (sg := sg) (wa := wa) (oz := oz) I
  have I' := I
  obtain ⟨hT1, hT6, hM, hS0, hD0, hK0, hf0, hS, hSf, hSi, hD, hDz, hE, hK, hKb, hKe, hO, hu⟩ := I'
  unfold wpX_resolveClassMethod wpY_resolveClassMethod
  dsimp only
  by_cases hn : v1 < 0
  · exact br_t hn (br_t hn ⟨rfl, R _ _ _⟩)
  · obtain ⟨c, hc, rfl⟩ := nI_of hn
    refine br_f hn ?_
    by_cases hcT : c < T
    · have hct : nI c < nI T := nI_lt hcT (by omega)
      have hin : vp_in (nI c) 6 := vp_in_nI (by omega) (by omega)
      refine br_t hct ⟨hin, ?_⟩
      by_cases hf : fi (nI c).toNatClampNeg = 0
      · refine br_t hf ⟨c + 1, ?_⟩
        obtain ⟨r, s, wa', oz', hX, hY⟩ := md_via (fl := fl) (sg := sg) (wa := wa) (oz := oz) (n := v2.toInt16.toInt32) (d := v3.toInt16.toInt32) (b1 := 331) (b2 := 332) (b3 := 333) (inc := 1) I hcT (by decide) (by decide)
        refine md_x52 (T := T) _ hM (fun j h1 _ h2 => hS j h1 h2) (c + 1) c 0 (by omega) hcT (by omega) (fun r' s' e => ?_) (fun e => ?_)
        · refine br_f hn (br_t hct ⟨hin, br_t hf ⟨c + 1 + 1, ?_⟩⟩)
          refine md_y49 (T := T) _ hM hT6 (fun j h1 _ h2 => hS j h1 h2) (c + 1) c 310 (by omega) hcT (fun r2 s2 e2 => ?_) (fun e2 => ?_)
          · rw [e] at e2
            obtain ⟨rfl, rfl⟩ := Prod.mk.inj (Option.some.inj e2)
            exact ⟨rfl, R _ _ _⟩
          · rw [e] at e2
            exact absurd e2 (by simp)
        · unfold wX_resolveClassMethod_190
          refine hX st _ ?_
          refine br_f hn (br_t hct ⟨hin, br_t hf ⟨c + 1 + 1, ?_⟩⟩)
          refine md_y49 (T := T) _ hM hT6 (fun j h1 _ h2 => hS j h1 h2) (c + 1) c 310 (by omega) hcT (fun r2 s2 e2 => ?_) (fun _ st2 Q hQ => ?_)
          · rw [e] at e2
            exact absurd e2 (by simp)
          · exact hY st2 Q (hQ _ _ _ ⟨rfl, R _ _ _⟩)
      · exact br_f hf (br_f hn (br_t hct ⟨hin, br_f hf ⟨rfl, R _ _ _⟩⟩))
    · have hct : ¬ nI c < nI T := nI_nlt (by omega) hc
      exact br_f hct (br_f hn (br_f hct ⟨rfl, R _ _ _⟩))
theorem i_vc_resolveIfaceMethod {k : Nat} {u : SX} {v : SY} (I : i_Rel k u v) (hk : k + 6 ≤ 3072) (v1 : Int32) (v2 : Int32) (v3 : Int32) : wpX_resolveIfaceMethod (fun r u' => wpY_resolveIfaceMethod (fun r' v' => r' = r ∧ i_Rel (k + 6) u' v') v v1 v2 v3) u v1 v2 v3 := by
  obtain ⟨T, M, st, S, D, E, K, O, fi, nm, ds, fl, sg, wa, oz, rfl, rfl, I⟩ := I
  have R := fun (st : Int32) (wa oz : Nat → Int32) => md_rel (k := k + 6) (st := st) (fl := fl) (sg := sg) (wa := wa) (oz := oz) I
  have I' := I
  obtain ⟨hT1, hT6, hM, hS0, hD0, hK0, hf0, hS, hSf, hSi, hD, hDz, hE, hK, hKb, hKe, hO, hu⟩ := I'
  unfold wpX_resolveIfaceMethod wpY_resolveIfaceMethod
  dsimp only
  by_cases hn : v1 < 0
  · exact br_t hn (br_t hn ⟨rfl, R _ _ _⟩)
  · obtain ⟨c, hc, rfl⟩ := nI_of hn
    refine br_f hn ?_
    by_cases hcT : c < T
    · have hct : nI c < nI T := nI_lt hcT (by omega)
      have hin : vp_in (nI c) 6 := vp_in_nI (by omega) (by omega)
      refine br_t hct ⟨hin, ?_⟩
      by_cases hf : fi (nI c).toNatClampNeg = 0
      · exact br_t hf (br_f hn (br_t hct ⟨hin, br_t hf ⟨rfl, R _ _ _⟩⟩))
      · refine br_f hf ?_
        obtain ⟨r, s, wa', oz', hX, hY⟩ := md_via (fl := fl) (sg := sg) (wa := wa) (oz := oz) (n := v2.toInt16.toInt32) (d := v3.toInt16.toInt32) (b1 := 440) (b2 := 450) (b3 := 460) (inc := 10) I hcT (by decide) (by decide)
        refine md_xfd hM _ ?_
        by_cases h1 : md_fd (md_a O) nm ds (nI c) v2.toInt16.toInt32 v3.toInt16.toInt32 M 0 < 0
        · refine br_t h1 ?_
          refine md_xfd hM _ ?_
          have hV : md_V (md_fd (md_a O) nm ds 0 v2.toInt16.toInt32 v3.toInt16.toInt32 M 0) := md_fd_V hM
          by_cases h2 : md_fd (md_a O) nm ds 0 v2.toInt16.toInt32 v3.toInt16.toInt32 M 0 < 0
          · refine br_t h2 ?_
            unfold wX_resolveIfaceMethod_123
            refine hX st _ ?_
            refine br_f hn (br_t hct ⟨hin, br_f hf ?_⟩)
            refine md_yfd hM _ ?_
            refine br_t h1 ?_
            refine md_yfd hM _ ?_
            refine br_t h2 ?_
            unfold wY_resolveIfaceMethod_112
            exact hY 430 _ ⟨rfl, R _ _ _⟩
          · refine br_f h2 ?_
            have hin8 : vp_in (md_fd (md_a O) nm ds 0 v2.toInt16.toInt32 v3.toInt16.toInt32 M 0) 8 := by
              obtain ⟨i, hi, e⟩ := md_Vp hV h2
              rw [e]
              exact vp_in_nI hi (by omega)
            refine ⟨hin8, ?_⟩
            have h9 := md_fl9 (fl (md_fd (md_a O) nm ds 0 v2.toInt16.toInt32 v3.toInt16.toInt32 M 0).toNatClampNeg)
            by_cases h3 : fl (md_fd (md_a O) nm ds 0 v2.toInt16.toInt32 v3.toInt16.toInt32 M 0).toNatClampNeg &&& 1 = 0
            · have h4 : ¬ fl (md_fd (md_a O) nm ds 0 v2.toInt16.toInt32 v3.toInt16.toInt32 M 0).toNatClampNeg &&& 9 = 1 := fun z => (h9.mp z).1 h3
              refine br_t h3 ?_
              unfold wX_resolveIfaceMethod_123
              refine hX st _ ?_
              refine br_f hn (br_t hct ⟨hin, br_f hf ?_⟩)
              refine md_yfd hM _ ?_
              refine br_t h1 ?_
              refine md_yfd hM _ ?_
              refine br_f h2 ⟨hin8, br_f h4 ?_⟩
              unfold wY_resolveIfaceMethod_112
              exact hY 430 _ ⟨rfl, R _ _ _⟩
            · refine br_f h3 ⟨hin8, ?_⟩
              by_cases h5 : fl (md_fd (md_a O) nm ds 0 v2.toInt16.toInt32 v3.toInt16.toInt32 M 0).toNatClampNeg &&& 8 = 0
              · refine br_t h5 ?_
                refine br_f hn (br_t hct ⟨hin, br_f hf ?_⟩)
                refine md_yfd hM _ ?_
                refine br_t h1 ?_
                refine md_yfd hM _ ?_
                exact br_f h2 ⟨hin8, br_t (h9.mpr ⟨h3, h5⟩) ⟨rfl, R _ _ _⟩⟩
              · have h4 : ¬ fl (md_fd (md_a O) nm ds 0 v2.toInt16.toInt32 v3.toInt16.toInt32 M 0).toNatClampNeg &&& 9 = 1 := fun z => h5 (h9.mp z).2
                refine br_f h5 ?_
                unfold wX_resolveIfaceMethod_123
                refine hX st _ ?_
                refine br_f hn (br_t hct ⟨hin, br_f hf ?_⟩)
                refine md_yfd hM _ ?_
                refine br_t h1 ?_
                refine md_yfd hM _ ?_
                refine br_f h2 ⟨hin8, br_f h4 ?_⟩
                unfold wY_resolveIfaceMethod_112
                exact hY 430 _ ⟨rfl, R _ _ _⟩
        · refine br_f h1 ?_
          refine br_f hn (br_t hct ⟨hin, br_f hf ?_⟩)
          refine md_yfd hM _ ?_
          exact br_f h1 ⟨rfl, R _ _ _⟩
    · have hct : ¬ nI c < nI T := nI_nlt (by omega) hc
      exact br_f hct (br_f hn (br_f hct ⟨rfl, R _ _ _⟩))
theorem i_vc_stepUsed {k : Nat} {u : SX} {v : SY} (I : i_Rel k u v) (hk : k + 6 ≤ 3072) : wpX_stepUsed (fun r => wpY_stepUsed (fun r' => r' = r ∧ i_Rel (k + 6) u v) v) u := by
  obtain ⟨T, M, st, S, D, E, K, O, fi, nm, ds, fl, sg, wa, oz, rfl, rfl, I⟩ := I
  exact ⟨rfl, md_rel I⟩
theorem i_vc_superinterfaces {k : Nat} {u : SX} {v : SY} (I : i_Rel k u v) (hk : k + 6 ≤ 3072) (v1 : Int32) : wpX_superinterfaces (fun r => wpY_superinterfaces (fun r' => r' = r ∧ i_Rel (k + 6) u v) v v1) u v1 := by
  obtain ⟨T, M, st, S, D, E, K, O, fi, nm, ds, fl, sg, wa, oz, rfl, rfl, I⟩ := I
  have R := md_rel (k := k + 6) (st := st) (fl := fl) (sg := sg) (wa := wa) (oz := oz) I
  obtain ⟨hT1, hT6, hM, hS0, hD0, hK0, hf0, hS, hSf, hSi, hD, hDz, hE, hK, hKb, hKe, hO, hu⟩ := I
  unfold wpX_superinterfaces wpY_superinterfaces
  dsimp only
  by_cases hn : v1 < 0
  · exact br_t hn (br_t hn ⟨rfl, R⟩)
  · obtain ⟨c, hc, rfl⟩ := nI_of hn
    refine br_f hn ?_
    by_cases hcT : c < T
    · have hct : nI c < nI T := nI_lt hcT (by omega)
      have hin : vp_in (nI c) 6 := vp_in_nI (by omega) (by omega)
      refine br_t hct ⟨hin, br_f hn (br_t hct ⟨hin, ?_, R⟩)⟩
      have := hK c hcT
      rw [md_lt hc, md_at hc, nI_l (by omega)]
    · have hct : ¬ nI c < nI T := nI_nlt (by omega) hc
      exact br_f hct (br_f hn (br_f hct ⟨rfl, R⟩))
end
