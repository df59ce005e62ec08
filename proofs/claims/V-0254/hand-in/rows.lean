section
/-! rows of kit/rows (PURE-ROWS, BITS), pasted -/
theorem pk_us {f : Nat → Int32} {k : Nat} {x : Int32} : upd f k x k = x := if_pos rfl
theorem pk_un {f : Nat → Int32} {k j : Nat} {x : Int32} (h : j ≠ k) : upd f k x j = f j := if_neg h
theorem pk_uLs {f : Nat → Int64} {k : Nat} {x : Int64} : vp_updL f k x k = x := if_pos rfl
theorem pk_uLn {f : Nat → Int64} {k j : Nat} {x : Int64} (h : j ≠ k) : vp_updL f k x j = f j := if_neg h
theorem pk_sub {a b : Nat} (h : b ≤ a) : nI a - nI b = nI (a - b) := by
  obtain ⟨c, rfl⟩ : ∃ c, a = c + b := ⟨a - b, by omega⟩
  rw [← nI_add, Int32.add_sub_cancel, Nat.add_sub_cancel]
theorem pk_m1 (n : Nat) : nI (n + 1) + (-1) = nI n := by
  rw [← nI_1, Int32.add_assoc, show (1 : Int32) + (-1) = 0 from rfl, Int32.add_zero]
theorem pk_mul (a b : Nat) : nI a * nI b = nI (a * b) := (Int32.ofNat_mul a b).symm
theorem pk_ix (x : Int32) {n : Nat} (hn : n < 2 ^ 31) : x < 0 ∨ nI n ≤ x ∨ ∃ j : Nat, j < n ∧ x = nI j := by
  by_cases h : x < 0
  · exact Or.inl h
  · obtain ⟨j, hj, rfl⟩ := nI_of h
    by_cases h2 : j < n
    · exact Or.inr (Or.inr ⟨j, h2, rfl⟩)
    · exact Or.inr (Or.inl (nI_le (by omega) hj))
theorem pk_le {x y : Int32} {A B : Prop} (a b : Nat) (f : a ≤ b → A) (g : b < a → B) (hx : x = nI a := by rfl) (hy : y = nI b := by rfl) (ha : a < 2 ^ 31 := by omega) (hb : b < 2 ^ 31 := by omega) : (x ≤ y → A) ∧ (¬ x ≤ y → B) := by
  subst hx hy
  rw [nI_leI ha hb]
  exact ⟨f, fun z => g (by omega)⟩
theorem pk_lt {x y : Int32} {A B : Prop} (a b : Nat) (f : a < b → A) (g : b ≤ a → B) (hx : x = nI a := by rfl) (hy : y = nI b := by rfl) (ha : a < 2 ^ 31 := by omega) (hb : b < 2 ^ 31 := by omega) : (x < y → A) ∧ (¬ x < y → B) := by
  subst hx hy
  rw [nI_ltI ha hb]
  exact ⟨f, fun z => g (by omega)⟩
theorem pk_eq {x y : Int32} {A B : Prop} (a b : Nat) (f : a = b → A) (g : a ≠ b → B) (hx : x = nI a := by rfl) (hy : y = nI b := by rfl) (ha : a < 2 ^ 31 := by omega) (hb : b < 2 ^ 31 := by omega) : (x = y → A) ∧ (¬ x = y → B) := by
  subst hx hy
  rw [nI_eq ha hb]
  exact ⟨f, g⟩
theorem pk_in {x : Int32} (n N : Nat) (h : n < N) (hx : x = nI n := by rfl) (hN : N < 2 ^ 31 := by omega) : vp_in x N := by
  subst hx
  exact vp_in_nI h hN
theorem pk_cl {x : Int32} (n : Nat) (hx : x = nI n := by rfl) (h : n < 2 ^ 31 := by omega) : x.toNatClampNeg = n := by
  subst hx
  exact nI_clamp h
theorem pk_tn {n : Nat} (h : n < 2 ^ 32) : (nI n).toBitVec.toNat = n := Nat.mod_eq_of_lt h
theorem pk_and (x : Int32) {m : Int32} (k : Nat) (hm : m.toBitVec.toNat = 2 ^ k - 1) : x &&& m = nI (x.toBitVec.toNat % 2 ^ k) := by
  apply Int32.toBitVec_inj.mp
  apply BitVec.eq_of_toNat_eq
  rw [Int32.toBitVec_and, BitVec.toNat_and, hm, Nat.and_two_pow_sub_one_eq_mod]
  show _ = (BitVec.ofNat 32 _).toNat
  rw [BitVec.toNat_ofNat]
  exact (Nat.mod_eq_of_lt (Nat.lt_of_le_of_lt (Nat.mod_le _ _) x.toBitVec.isLt)).symm
theorem pk_andN {n : Nat} (h : n < 2 ^ 32) {m : Int32} (k : Nat) (hm : m.toBitVec.toNat = 2 ^ k - 1) : nI n &&& m = nI (n % 2 ^ k) := by
  rw [pk_and _ k hm, pk_tn h]
theorem pk_andE (x : Int32) {m : Int32} (k : Nat) (hm : m.toBitVec.toNat = 2 ^ k - 1) : ∃ j : Nat, j < 2 ^ k ∧ x &&& m = nI j := ⟨_, Nat.mod_lt _ (Nat.two_pow_pos k), pk_and x k hm⟩
theorem pk_shl (a s : Int32) (k : Nat) (hs : (s.toBitVec.smod 32).toNat = k) : (a <<< s).toBitVec.toNat = a.toBitVec.toNat * 2 ^ k % 2 ^ 32 := by
  show (a.toBitVec <<< (s.toBitVec.smod 32).toNat).toNat = _
  rw [hs, BitVec.toNat_shiftLeft, Nat.shiftLeft_eq]
theorem pk_shlN {n : Nat} (s : Int32) (k : Nat) (hs : (s.toBitVec.smod 32).toNat = k) (h : n * 2 ^ k < 2 ^ 32) : nI n <<< s = nI (n * 2 ^ k) := by
  apply Int32.toBitVec_inj.mp
  apply BitVec.eq_of_toNat_eq
  have hn : n < 2 ^ 32 := Nat.lt_of_le_of_lt (Nat.le_mul_of_pos_right n (Nat.two_pow_pos k)) h
  rw [pk_shl _ _ k hs, pk_tn hn, pk_tn h, Nat.mod_eq_of_lt h]
theorem pk_ushr (x s : Int32) (k : Nat) (hs : ((s.toUInt32 &&& Int32.toUInt32 31).toBitVec % 32).toNat = k) : (x.toUInt32 >>> (s.toUInt32 &&& Int32.toUInt32 31)).toInt32.toBitVec.toNat = x.toBitVec.toNat / 2 ^ k := by
  have e : (x.toUInt32 >>> (s.toUInt32 &&& Int32.toUInt32 31)).toInt32.toBitVec = x.toBitVec >>> k := by
    rw [← hs]
    exact UInt32.toBitVec_shiftRight _ _
  rw [e, BitVec.toNat_ushiftRight, Nat.shiftRight_eq_div_pow]
theorem pk_ushrN {n : Nat} (hn : n < 2 ^ 32) (s : Int32) (k : Nat) (hs : ((s.toUInt32 &&& Int32.toUInt32 31).toBitVec % 32).toNat = k) : ((nI n).toUInt32 >>> (s.toUInt32 &&& Int32.toUInt32 31)).toInt32 = nI (n / 2 ^ k) := by
  apply Int32.toBitVec_inj.mp
  apply BitVec.eq_of_toNat_eq
  rw [pk_ushr _ s k hs, pk_tn hn, pk_tn (Nat.lt_of_le_of_lt (Nat.div_le_self _ _) hn)]
theorem pk_lT {n : Nat} (h : n < 2 ^ 63) : (lN n).toInt = (n : Int) := lg_ofNat_toInt h
theorem pk_lLT {a b : Nat} (ha : a < 2 ^ 63) (hb : b < 2 ^ 63) : lN a < lN b ↔ a < b := by
  rw [Int64.lt_iff_toInt_lt, pk_lT ha, pk_lT hb]; omega
theorem pk_lLE {a b : Nat} (ha : a < 2 ^ 63) (hb : b < 2 ^ 63) : lN a ≤ lN b ↔ a ≤ b := by
  rw [Int64.le_iff_toInt_le, pk_lT ha, pk_lT hb]; omega
theorem pk_lEQ {a b : Nat} (ha : a < 2 ^ 63) (hb : b < 2 ^ 63) : lN a = lN b ↔ a = b := by
  rw [← Int64.toInt_inj, pk_lT ha, pk_lT hb]; omega
theorem ek_v {α : Sort _} {P : α → Prop} {a b : α} (e : a = b) (h : P b) : P a := e ▸ h
def bt (x : Int32) (i : Nat) : Bool := x.toBitVec.getLsbD i
theorem b_ext {x y : Int32} (h : ∀ i, i < 32 → bt x i = bt y i) : x = y := Int32.toBitVec_inj.mp (BitVec.eq_of_getLsbD_eq (fun i hi => h i hi))
theorem b_or (x y : Int32) (i : Nat) : bt (x ||| y) i = (bt x i || bt y i) := by unfold bt; rw [Int32.toBitVec_or, BitVec.getLsbD_or]
theorem b_and (x y : Int32) (i : Nat) : bt (x &&& y) i = (bt x i && bt y i) := by unfold bt; rw [Int32.toBitVec_and, BitVec.getLsbD_and]
theorem b_xor (x y : Int32) (i : Nat) : bt (x ^^^ y) i = (bt x i ^^ bt y i) := by unfold bt; rw [Int32.toBitVec_xor, BitVec.getLsbD_xor]
theorem b_big {x : Int32} {i : Nat} (h : 32 ≤ i) : bt x i = false := BitVec.getLsbD_of_ge _ _ h
theorem b_255 (i : Nat) : bt 255 i = decide (i < 8) := by
  rcases Nat.lt_or_ge i 32 with h | h
  · exact (by decide +kernel : ∀ i, i < 32 → bt 255 i = decide (i < 8)) i h
  · rw [b_big h, decide_eq_false (by omega)]
theorem b_65535 (i : Nat) : bt 65535 i = decide (i < 16) := by
  rcases Nat.lt_or_ge i 32 with h | h
  · exact (by decide +kernel : ∀ i, i < 32 → bt 65535 i = decide (i < 16)) i h
  · rw [b_big h, decide_eq_false (by omega)]
theorem b_m1 : ∀ i, i < 32 → bt (-1) i = true := by decide +kernel
theorem b_0 (i : Nat) : bt 0 i = false := BitVec.getLsbD_zero
theorem s_l : ∀ n, n < 32 → ((nI n &&& 31).toBitVec.smod 32).toNat = n := by decide +kernel
theorem s_u : ∀ n, n < 32 → (((nI n).toUInt32 &&& Int32.toUInt32 31).toBitVec % 32).toNat = n := by decide +kernel
theorem b_shl (n : Nat) (hn : n < 32) (x : Int32) {i : Nat} (hi : i < 32) : bt (x <<< (nI n &&& 31)) i = (decide (n ≤ i) && bt x (i - n)) := by
  unfold bt
  rw [Int32.toBitVec_shiftLeft]
  show (x.toBitVec <<< ((nI n &&& 31).toBitVec.smod 32).toNat).getLsbD i = _
  rw [s_l n hn, BitVec.getLsbD_shiftLeft]
  rcases Nat.lt_or_ge i n with h | h
  · simp [h, Nat.not_le.mpr h]
  · simp [hi, h, Nat.not_lt.mpr h]
theorem b_ushr (n : Nat) (hn : n < 32) (x : Int32) (i : Nat) : bt ((x.toUInt32 >>> ((nI n).toUInt32 &&& Int32.toUInt32 31)).toInt32) i = bt x (n + i) := by
  show (x.toUInt32 >>> ((nI n).toUInt32 &&& Int32.toUInt32 31)).toBitVec.getLsbD i = x.toUInt32.toBitVec.getLsbD (n + i)
  rw [UInt32.toBitVec_shiftRight]
  show (x.toUInt32.toBitVec >>> (((nI n).toUInt32 &&& Int32.toUInt32 31).toBitVec % 32).toNat).getLsbD i = _
  rw [s_u n hn, BitVec.getLsbD_ushiftRight]
theorem b_shl8 (x : Int32) {i : Nat} (hi : i < 32) : bt (x <<< ((8 : Int32) &&& 31)) i = (decide (8 ≤ i) && bt x (i - 8)) := b_shl 8 (by omega) x hi
theorem b_shl16 (x : Int32) {i : Nat} (hi : i < 32) : bt (x <<< ((16 : Int32) &&& 31)) i = (decide (16 ≤ i) && bt x (i - 16)) := b_shl 16 (by omega) x hi
theorem wb_tb (n : Nat) : (lN n).toBitVec = BitVec.ofNat 64 n := rfl
theorem wb_inj {a b : Int64} (h : a.toBitVec = b.toBitVec) : a = b := Int64.toBitVec_inj.mp h
theorem wb_tn {n : Nat} (h : n < 2 ^ 64) : (lN n).toBitVec.toNat = n := by rw [wb_tb, BitVec.toNat_ofNat, Nat.mod_eq_of_lt h]
theorem wb_of (x : Int64) : ∃ n, n < 2 ^ 64 ∧ x = lN n := ⟨x.toBitVec.toNat, x.toBitVec.isLt, wb_inj (by rw [wb_tb]; simp)⟩
theorem wb_of32 (x : Int32) : ∃ n, n < 2 ^ 32 ∧ x = nI n := ⟨x.toBitVec.toNat, x.toBitVec.isLt, Int32.toBitVec_inj.mp (by show _ = BitVec.ofNat 32 _; simp)⟩
theorem wb_c : ∀ k, k < 64 → ((nI k).toInt64 &&& 63) = lN k := by decide +kernel
theorem wb_cu : ∀ k, k < 64 → ((nI k).toInt64.toUInt64 &&& Int64.toUInt64 63) = UInt64.ofNat k := by decide +kernel
theorem wb_sm : ∀ k, k < 64 → (BitVec.ofNat 64 k).smod 64 = BitVec.ofNat 64 k := by decide +kernel
theorem wb_pw {a b : Nat} (h : a ≤ b) : 2 ^ b = 2 ^ a * 2 ^ (b - a) := by rw [← Nat.pow_add]; congr 1; omega
theorem wb_lt2 {a b : Nat} (h : a < b) : 2 ^ a < 2 ^ b := Nat.pow_lt_pow_right (by decide) h
theorem wb_mod (n : Nat) : lN n = lN (n % 2 ^ 64) := wb_inj (by rw [wb_tb, wb_tb]; apply BitVec.eq_of_toNat_eq; rw [BitVec.toNat_ofNat, BitVec.toNat_ofNat, Nat.mod_mod])
theorem wb_shr {n k : Nat} (hn : n < 2 ^ 64) (hk : k < 64) : ((lN n).toUInt64 >>> ((nI k).toInt64.toUInt64 &&& Int64.toUInt64 63)).toInt64 = lN (n / 2 ^ k) := by
  rw [wb_cu k hk]
  apply wb_inj
  apply BitVec.eq_of_toNat_eq
  show ((lN n).toUInt64 >>> UInt64.ofNat k).toNat = (BitVec.ofNat 64 _).toNat
  have h1 : (UInt64.ofNat k).toNat = k := by
    show (BitVec.ofNat 64 k).toNat = k
    rw [BitVec.toNat_ofNat, Nat.mod_eq_of_lt (by omega)]
  have h2 : (lN n).toUInt64.toNat = n := wb_tn hn
  rw [UInt64.toNat_shiftRight, h1, h2, Nat.mod_eq_of_lt hk, Nat.shiftRight_eq_div_pow, BitVec.toNat_ofNat, Nat.mod_eq_of_lt (Nat.lt_of_le_of_lt (Nat.div_le_self _ _) hn)]
theorem wb_shl (n : Nat) {k : Nat} (hk : k < 64) : lN n <<< ((nI k).toInt64 &&& 63) = lN (n * 2 ^ k) := by
  rw [wb_c k hk]
  apply wb_inj
  rw [Int64.toBitVec_shiftLeft, wb_tb, wb_tb, wb_tb, wb_sm k hk]
  apply BitVec.eq_of_toNat_eq
  rw [BitVec.shiftLeft_eq', BitVec.toNat_shiftLeft, BitVec.toNat_ofNat, BitVec.toNat_ofNat, BitVec.toNat_ofNat, Nat.mod_eq_of_lt (show k < 2 ^ 64 by omega), Nat.shiftLeft_eq, Nat.mul_mod, Nat.mod_mod, ← Nat.mul_mod]
theorem wb_and {a b : Nat} (ha : a < 2 ^ 64) (hb : b < 2 ^ 64) : lN a &&& lN b = lN (a &&& b) := by
  apply wb_inj
  rw [Int64.toBitVec_and, wb_tb, wb_tb, wb_tb]
  apply BitVec.eq_of_toNat_eq
  rw [BitVec.toNat_and, BitVec.toNat_ofNat, BitVec.toNat_ofNat, BitVec.toNat_ofNat, Nat.mod_eq_of_lt ha, Nat.mod_eq_of_lt hb, Nat.mod_eq_of_lt (Nat.and_lt_two_pow _ hb)]
theorem wb_or {a b : Nat} (ha : a < 2 ^ 64) (hb : b < 2 ^ 64) : lN a ||| lN b = lN (a ||| b) := by
  apply wb_inj
  rw [Int64.toBitVec_or, wb_tb, wb_tb, wb_tb]
  apply BitVec.eq_of_toNat_eq
  rw [BitVec.toNat_or, BitVec.toNat_ofNat, BitVec.toNat_ofNat, BitVec.toNat_ofNat, Nat.mod_eq_of_lt ha, Nat.mod_eq_of_lt hb, Nat.mod_eq_of_lt (Nat.or_lt_two_pow ha hb)]
theorem wb_mask {n k : Nat} (hn : n < 2 ^ 64) (hk : k < 64) : lN n &&& lN (2 ^ k - 1) = lN (n % 2 ^ k) := by
  rw [wb_and hn (by have := wb_lt2 hk; omega), Nat.and_two_pow_sub_one_eq_mod]
theorem wb_a1 {n : Nat} (hn : n < 2 ^ 64) : lN n &&& 1 = lN (n % 2) := wb_mask (k := 1) hn (by decide)
theorem pk_least (P : Nat → Prop) (h : ∃ k, P k) : ∃ k, P k ∧ ∀ j, j < k → ¬ P j := by
  obtain ⟨k, hk⟩ := h
  induction k using Nat.strongRecOn with
  | ind k ih =>
    by_cases e : ∃ j, j < k ∧ P j
    · obtain ⟨j, hj, pj⟩ := e
      exact ih j hj pj
    · exact ⟨k, hk, fun j hj pj => e ⟨j, hj, pj⟩⟩
end
section
/-! base: arrays of naturals, block writes, bytes, names -/
def ar_I (B : Nat → Nat) : Nat → Int32 := fun j => nI (B j)
def ar_u (B : Nat → Nat) (k v : Nat) : Nat → Nat := fun j => if j = k then v else B j
def ar_bw {α : Type} (A : Nat → α) (a : Nat) (f : Nat → α) (n : Nat) : Nat → α := fun j => if a ≤ j ∧ j < a + n then f (j - a) else A j
theorem ar_us {B : Nat → Nat} {k v : Nat} : ar_u B k v k = v := if_pos rfl
theorem ar_un {B : Nat → Nat} {k v j : Nat} (h : j ≠ k) : ar_u B k v j = B j := if_neg h
theorem ar_bi {α : Type} {A f : Nat → α} {a n j : Nat} (h1 : a ≤ j) (h2 : j < a + n) : ar_bw A a f n j = f (j - a) := if_pos ⟨h1, h2⟩
theorem ar_bo {α : Type} {A f : Nat → α} {a n j : Nat} (h : j < a ∨ a + n ≤ j) : ar_bw A a f n j = A j := if_neg (by omega)
theorem ar_b0 {α : Type} {A f : Nat → α} {a : Nat} : ar_bw A a f 0 = A := funext fun j => if_neg (by omega)
theorem ar_bS {A f : Nat → Nat} {a n : Nat} : ar_u (ar_bw A a f n) (a + n) (f n) = ar_bw A a f (n + 1) := by
  funext j
  by_cases h : j = a + n
  · subst h; rw [ar_us, ar_bi (by omega) (by omega), Nat.add_sub_cancel_left]
  · rw [ar_un h]
    by_cases h2 : j < a ∨ a + n ≤ j
    · rw [ar_bo h2, ar_bo (by omega)]
    · rw [ar_bi (by omega) (by omega), ar_bi (by omega) (by omega)]
theorem ar_bT {A f : Nat → Int32} {a n : Nat} : upd (ar_bw A a f n) (a + n) (f n) = ar_bw A a f (n + 1) := by
  funext j
  by_cases h : j = a + n
  · subst h; rw [pk_us, ar_bi (by omega) (by omega), Nat.add_sub_cancel_left]
  · rw [pk_un h]
    by_cases h2 : j < a ∨ a + n ≤ j
    · rw [ar_bo h2, ar_bo (by omega)]
    · rw [ar_bi (by omega) (by omega), ar_bi (by omega) (by omega)]
theorem ar_ux (B : Nat → Nat) (k v : Nat) : upd (ar_I B) k (nI v) = ar_I (ar_u B k v) := by
  funext j
  by_cases h : j = k
  · subst h
    rw [pk_us]
    show _ = nI (ar_u B j v j)
    rw [ar_us]
  · rw [pk_un h]
    show nI (B j) = nI (ar_u B k v j)
    rw [ar_un h]
theorem ar_st {B : Nat → Nat} {i x : Int32} (w v : Nat) (hi : i = nI w := by rfl) (hx : x = nI v := by rfl) (hw : w < 2 ^ 31 := by omega) : upd (ar_I B) i.toNatClampNeg x = ar_I (ar_u B w v) := by
  subst hi hx
  rw [nI_clamp hw, ar_ux]
theorem ar_sI {B : Nat → Int32} {i x : Int32} (w : Nat) (hi : i = nI w := by rfl) (hw : w < 2 ^ 31 := by omega) : upd B i.toNatClampNeg x = upd B w x := by
  subst hi
  rw [nI_clamp hw]
theorem ar_sL {B : Nat → Int64} {i : Int32} {x : Int64} (w : Nat) (hi : i = nI w := by rfl) (hw : w < 2 ^ 31 := by omega) : vp_updL B i.toNatClampNeg x = vp_updL B w x := by
  subst hi
  rw [nI_clamp hw]
theorem ar_rd {B : Nat → Nat} {i : Int32} (w : Nat) (hi : i = nI w := by rfl) (hw : w < 2 ^ 31 := by omega) : ar_I B i.toNatClampNeg = nI (B w) := by
  subst hi
  rw [nI_clamp hw]
  rfl
theorem ar_at (B : Nat → Nat) (j : Nat) : ar_I B j = nI (B j) := rfl
theorem ix_a (s : Nat) : nI s * 64 = nI (64 * s) := by rw [Nat.mul_comm]; exact pk_mul s 64
theorem ix_b (s k : Nat) : nI s * 64 + nI k = nI (64 * s + k) := by rw [ix_a, nI_add]
theorem ix_c (s k i : Nat) : nI s * 64 + nI k + nI i = nI (64 * s + k + i) := by rw [ix_b, nI_add]
theorem ix_1 (a : Nat) : 1 + nI a = nI (1 + a) := nI_add 1 a
theorem ix_2 (a : Nat) : 2 * nI a = nI (2 * a) := pk_mul 2 a
theorem ix_p (a n : Nat) : nI a + (1 + nI n) = nI (a + 1 + n) := by rw [ix_1, nI_add, Nat.add_assoc]
theorem ix_q (a n : Nat) : nI a + 1 + nI n = nI (a + 1 + n) := by rw [nI_1, nI_add]
theorem ix_s {n : Nat} (h : 0 < n) : nI n - 1 = nI (n - 1) := pk_sub (b := 1) h
theorem nI_n1 {a : Nat} (h : a < 2 ^ 31) : ¬ nI a = -1 := by
  intro e
  have := nI_pos (n := a) h
  rw [e] at this
  exact this (by decide)
theorem nI_i0 {a : Nat} (h : a < 2 ^ 31) : nI a = 0 ↔ a = 0 := by rw [← nI_0, nI_eq h (by omega)]
/-! bytes -/
def bb_v (v : Int32) (k : Nat) : Nat := v.toBitVec.toNat / 2 ^ k % 256
theorem bb_lt {v : Int32} {k : Nat} : bb_v v k < 256 := Nat.mod_lt _ (by decide)
theorem bb_0 (v : Int32) : v &&& 255 = nI (bb_v v 0) := by
  rw [pk_and v 8 (by decide)]
  refine congrArg nI ?_
  unfold bb_v
  omega
theorem bb_s (v : Int32) {s : Int32} (k : Nat) (hs : ((s.toUInt32 &&& Int32.toUInt32 31).toBitVec % 32).toNat = k) : ((v.toUInt32 >>> (s.toUInt32 &&& Int32.toUInt32 31)).toInt32) &&& 255 = nI (bb_v v k) := by
  rw [pk_and _ 8 (by decide), pk_ushr v s k hs]
  rfl
theorem bb_2 (v : Int32) {s : Int32} (k j : Nat) (hs : ((s.toUInt32 &&& Int32.toUInt32 31).toBitVec % 32).toNat = k) : bb_v ((v.toUInt32 >>> (s.toUInt32 &&& Int32.toUInt32 31)).toInt32) j = bb_v v (k + j) := by
  unfold bb_v
  rw [pk_ushr v s k hs, Nat.div_div_eq_div_mul, ← Nat.pow_add]
theorem bb_fd (v : Int32) : (((v &&& 65023).toUInt32 >>> ((8 : Int32).toUInt32 &&& Int32.toUInt32 31)).toInt32) &&& 255 = ((v.toUInt32 >>> ((8 : Int32).toUInt32 &&& Int32.toUInt32 31)).toInt32) &&& 253 := by
  apply b_ext
  intro i hi
  have e : ∀ i, i < 32 → (bt 65023 (8 + i) && bt 255 i) = bt 253 i := by decide +kernel
  rw [b_and, b_and]
  show (bt ((v &&& 65023).toUInt32 >>> ((nI 8).toUInt32 &&& Int32.toUInt32 31)).toInt32 i && bt 255 i) = (bt (v.toUInt32 >>> ((nI 8).toUInt32 &&& Int32.toUInt32 31)).toInt32 i && bt 253 i)
  rw [b_ushr 8 (by decide), b_ushr 8 (by decide), b_and, ← e i hi, Bool.and_assoc]
theorem bb_f0 (v : Int32) : (v &&& 65023) &&& 255 = v &&& 255 := by
  apply b_ext
  intro i hi
  have e : ∀ i, i < 32 → (bt 65023 i && bt 255 i) = bt 255 i := by decide +kernel
  rw [b_and, b_and, b_and, Bool.and_assoc, e i hi]
theorem bb_253 (v : Int32) : ((v.toUInt32 >>> ((8 : Int32).toUInt32 &&& Int32.toUInt32 31)).toInt32) &&& 253 = nI (bb_v (v &&& 65023) 8) := by
  rw [← bb_fd]
  exact bb_s (v &&& 65023) 8 (by decide)
theorem bb_vf0 (v : Int32) : bb_v (v &&& 65023) 0 = bb_v v 0 := by
  have h := bb_f0 v
  rw [bb_0, bb_0] at h
  have h1 : bb_v (v &&& 65023) 0 < 256 := bb_lt
  have h2 : bb_v v 0 < 256 := bb_lt
  exact (nI_eq (by omega) (by omega)).mp h
theorem bb_or {a b : Nat} (ha : a < 2 ^ 32) (hb : b < 2 ^ 32) : nI a ||| nI b = nI (a ||| b) := by
  apply Int32.toBitVec_inj.mp
  apply BitVec.eq_of_toNat_eq
  rw [Int32.toBitVec_or, BitVec.toNat_or, pk_tn ha, pk_tn hb, pk_tn (Nat.or_lt_two_pow ha hb)]
theorem bb_o2 {a : Nat} (h : a < 256) : a ||| 2 < 256 := Nat.or_lt_two_pow (n := 8) h (by decide)
theorem bb_oa {a c k : Nat} (hc : c < 2 ^ k) : a * 2 ^ k ||| c = a * 2 ^ k + c := by
  rw [← Nat.shiftLeft_eq]
  exact (Nat.shiftLeft_add_eq_or_of_lt hc a).symm
theorem bb_two {a c : Nat} (ha : a < 256) (hc : c < 256) : (nI a <<< ((8 : Int32) &&& 31)) ||| nI c = nI (a * 256 + c) := by
  rw [pk_shlN _ 8 (by decide) (by omega), bb_or (by omega) (by omega)]
  exact congrArg nI (bb_oa (k := 8) hc)
theorem bb_four {a c : Nat} (ha : a < 65536) (hc : c < 65536) : ((nI a).toInt64 <<< ((16 : Int32).toInt64 &&& 63)) ||| (nI c).toInt64 = lN (a * 65536 + c) := by
  rw [nI_l (by omega), nI_l (by omega)]
  show (lN a <<< ((nI 16).toInt64 &&& 63)) ||| lN c = _
  rw [wb_shl a (by decide), wb_or (by omega) (by omega)]
  exact congrArg lN (bb_oa (k := 16) hc)
/-! the bytes of a text -/
def tx_b (t : Int64) (i : Nat) : Nat := t.toBitVec.toNat / 2 ^ (8 * i) % 256
theorem tx_lt {t : Int64} {i : Nat} : tx_b t i < 256 := Nat.mod_lt _ (by decide)
theorem tx_e (t : Int64) {i : Nat} (hi : i < 8) : (((t.toUInt64 >>> ((8 * nI i).toInt64.toUInt64 &&& Int64.toUInt64 63)).toInt64) &&& 255).toInt32 = nI (tx_b t i) := by
  obtain ⟨n, hn, rfl⟩ := wb_of t
  rw [show (8 : Int32) * nI i = nI (8 * i) from pk_mul 8 i, wb_shr hn (by omega)]
  rw [show (255 : Int64) = lN (2 ^ 8 - 1) from rfl, wb_mask (Nat.lt_of_le_of_lt (Nat.div_le_self _ _) hn) (by decide), lN_i]
  unfold tx_b
  rw [wb_tn hn]
/-! folding -/
def fo_ (x : Nat) : Nat := if 65 ≤ x ∧ x ≤ 90 then x + 32 else x
theorem fo_lo {x : Nat} (h : x < 65) : fo_ x = x := if_neg (by omega)
theorem fo_hi {x : Nat} (h : 90 < x) : fo_ x = x := if_neg (by omega)
theorem fo_mi {x : Nat} (h1 : 65 ≤ x) (h2 : x ≤ 90) : fo_ x = x + 32 := if_pos ⟨h1, h2⟩
theorem fo_lt {x : Nat} (h : x < 256) : fo_ x < 512 := by unfold fo_; split <;> omega
/-! a plain name: labels, then 0 -/
def wn_n (A : Nat → Nat) : Nat → Nat → Nat → Prop
  | 0, _, _ => False
  | n + 1, k, e => (A k = 0 ∧ k + 1 = e) ∨ (1 ≤ A k ∧ A k < 64 ∧ k + 1 + A k < e ∧ wn_n A n (k + 1 + A k) e)
def wn_ (A : Nat → Nat) (k e : Nat) : Prop := ∃ n, wn_n A n k e
theorem wn_lt {A : Nat → Nat} {k e : Nat} (h : wn_ A k e) : k < e := by
  obtain ⟨n, h⟩ := h
  cases n with
  | zero => exact h.elim
  | succ n => rcases h with ⟨_, h⟩ | ⟨_, _, h, _⟩ <;> omega
theorem wn_i0 {A : Nat → Nat} {k : Nat} (h : A k = 0) : wn_ A k (k + 1) := ⟨1, Or.inl ⟨h, rfl⟩⟩
theorem wn_is {A : Nat → Nat} {k e : Nat} (h1 : 1 ≤ A k) (h2 : A k < 64) (h : wn_ A (k + 1 + A k) e) : wn_ A k e := by
  have h3 := wn_lt h
  obtain ⟨n, h⟩ := h
  exact ⟨n + 1, Or.inr ⟨h1, h2, h3, h⟩⟩
theorem wn_c {A : Nat → Nat} {k e : Nat} (h : wn_ A k e) : (A k = 0 ∧ k + 1 = e) ∨ (1 ≤ A k ∧ A k < 64 ∧ k + 1 + A k < e ∧ wn_ A (k + 1 + A k) e) := by
  obtain ⟨n, h⟩ := h
  cases n with
  | zero => exact h.elim
  | succ n =>
    rcases h with h | ⟨h1, h2, h3, h4⟩
    · exact Or.inl h
    · exact Or.inr ⟨h1, h2, h3, n, h4⟩
theorem wn_sh {A C : Nat → Nat} {a d m : Nat} : ∀ n k, wn_n A n (k + a) (m + a) → (∀ j, k ≤ j → j < m → C (j + d) = A (j + a)) → wn_n C n (k + d) (m + d) := by
  intro n
  induction n with
  | zero => intro k h _; exact h
  | succ n ih =>
    intro k h hc
    rcases h with ⟨h1, h2⟩ | ⟨h1, h2, h3, h4⟩
    · exact Or.inl ⟨by rw [hc k (Nat.le_refl _) (by omega)]; exact h1, by omega⟩
    · have e := hc k (Nat.le_refl _) (by omega)
      refine Or.inr ⟨by omega, by omega, by omega, ?_⟩
      rw [show k + a + 1 + A (k + a) = (k + 1 + A (k + a)) + a by omega] at h4
      rw [show k + d + 1 + C (k + d) = (k + 1 + A (k + a)) + d by omega]
      exact ih _ h4 (fun j h5 h6 => hc j (by omega) h6)
theorem wn_cg {A C : Nat → Nat} {k e : Nat} (h : wn_ A k e) (hc : ∀ j, k ≤ j → j < e → C j = A j) : wn_ C k e := by
  obtain ⟨n, h⟩ := h
  exact ⟨n, wn_sh (a := 0) (d := 0) n k h hc⟩
theorem wn_mv {A C : Nat → Nat} {a d m : Nat} (h : wn_ A a (a + m)) (hc : ∀ j, j < m → C (d + j) = A (a + j)) : wn_ C d (d + m) := by
  obtain ⟨n, h⟩ := h
  have h' : wn_n A n (0 + a) (m + a) := by rw [Nat.zero_add, Nat.add_comm]; exact h
  have := wn_sh (C := C) (a := a) (d := d) (m := m) n 0 h' (fun j _ h6 => by rw [Nat.add_comm j d, Nat.add_comm j a]; exact hc j h6)
  rw [Nat.zero_add, Nat.add_comm] at this
  exact ⟨n, this⟩
theorem wn_ap {A C : Nat → Nat} {e L : Nat} (hL1 : 1 ≤ L) (hL2 : L < 64) (h1 : C (e - 1) = L) (h2 : C (e + L) = 0) : ∀ n k, wn_n A n k e → (∀ j, k ≤ j → j + 1 < e → C j = A j) → wn_ C k (e + L + 1) := by
  intro n
  induction n with
  | zero => intro k h _; exact h.elim
  | succ n ih =>
    intro k h hc
    rcases h with ⟨h3, h4⟩ | ⟨h3, h4, h5, h6⟩
    · have ek : k = e - 1 := by omega
      have e1 : C k = L := by rw [ek]; exact h1
      refine wn_is (by omega) (by omega) ?_
      rw [e1, show k + 1 + L = e + L by omega]
      exact wn_i0 h2
    · have e1 := hc k (Nat.le_refl _) (by omega)
      refine wn_is (by omega) (by omega) ?_
      rw [e1]
      exact ih _ h6 (fun j h7 h8 => hc j (by omega) h8)
end
section
/-! the built message: places and what stands there (pure) -/
def hd_ (B PS PN : Nat → Nat) (E q m : Nat) (F : Nat → Nat) : Prop :=
  (q < E ∧ B q = 0 ∧ m = 1 ∧ fo_ (F 0) = 0)
  ∨ (q + 1 < E ∧ 192 ≤ B q ∧ ∃ t, t = (B q - 192) * 256 + B (q + 1) ∧ 12 ≤ t ∧ t < q ∧ PS t ≠ 0 ∧ PS t = m ∧ ∀ i, i < m → fo_ (F i) = fo_ (PN (64 * t + i)))
  ∨ (q < E ∧ PS q ≠ 0 ∧ PS q = m ∧ ∀ i, i < m → fo_ (F i) = fo_ (PN (64 * q + i)))
def lc_ (B PS PN : Nat → Nat) (E p : Nat) : Prop :=
  1 ≤ B p ∧ B p < 64 ∧ 1 + B p < PS p ∧ PN (64 * p) = B p ∧ (∀ i, 1 ≤ i → i ≤ B p → PN (64 * p + i) = B (p + i)) ∧
  hd_ B PS PN E (p + 1 + B p) (PS p - (1 + B p)) (fun i => PN (64 * p + (1 + B p + i)))
def pl_ (B PS PN : Nat → Nat) (E : Nat) : Prop := ∀ p, p < E → PS p ≠ 0 → 12 ≤ p ∧ PS p ≤ 64 ∧ lc_ B PS PN E p
theorem hd_fr {B PS PN C QS QN F H : Nat → Nat} {E q m : Nat} (hm : m ≤ 64) (hB : ∀ j, q ≤ j → j < E → C j = B j) (hS : ∀ p, p < E → QS p = PS p) (hN : ∀ j, j < 64 * E → QN j = PN j) (hF : ∀ i, i < m → fo_ (H i) = fo_ (F i)) (h : hd_ B PS PN E q m F) : hd_ C QS QN E q m H := by
  rcases h with ⟨h1, h2, h3, h4⟩ | ⟨h1, h2, t, h3, h4, h5, h6, h7, h8⟩ | ⟨h1, h2, h3, h4⟩
  · exact Or.inl ⟨h1, by rw [hB q (Nat.le_refl _) h1]; exact h2, h3, by rw [hF 0 (by omega)]; exact h4⟩
  · have e1 := hB q (Nat.le_refl _) (by omega)
    have e2 := hB (q + 1) (by omega) h1
    refine Or.inr (Or.inl ⟨h1, by rw [e1]; exact h2, t, by rw [e1, e2]; exact h3, h4, h5, by rw [hS t (by omega)]; exact h6, by rw [hS t (by omega)]; exact h7, fun i hi => ?_⟩)
    rw [hF i hi, hN _ (by omega)]
    exact h8 i hi
  · refine Or.inr (Or.inr ⟨h1, by rw [hS q h1]; exact h2, by rw [hS q h1]; exact h3, fun i hi => ?_⟩)
    rw [hF i hi, hN _ (by omega)]
    exact h4 i hi
theorem hd_mo {B PS PN F : Nat → Nat} {E D q m : Nat} (hE : E ≤ D) (h : hd_ B PS PN E q m F) : hd_ B PS PN D q m F := by
  rcases h with ⟨h1, h2⟩ | ⟨h1, h2⟩ | ⟨h1, h2⟩
  · exact Or.inl ⟨by omega, h2⟩
  · exact Or.inr (Or.inl ⟨by omega, h2⟩)
  · exact Or.inr (Or.inr ⟨by omega, h2⟩)
theorem hd_q {B PS PN F : Nat → Nat} {E q m : Nat} (h : hd_ B PS PN E q m F) : q < E := by
  rcases h with ⟨h1, _⟩ | ⟨h1, _⟩ | ⟨h1, _⟩ <;> omega
theorem lc_fr {B PS PN C QS QN : Nat → Nat} {E p : Nat} (hp : p < E) (h64 : PS p ≤ 64) (hB : ∀ j, p ≤ j → j < E → C j = B j) (hS : ∀ p, p < E → QS p = PS p) (hN : ∀ j, j < 64 * E → QN j = PN j) (h : lc_ B PS PN E p) : lc_ C QS QN E p := by
  obtain ⟨h1, h2, h3, h4, h5, h6⟩ := h
  have e1 := hB p (Nat.le_refl _) hp
  have e2 := hS p hp
  have h7 := hd_q h6
  unfold lc_
  rw [e1, e2]
  refine ⟨h1, h2, h3, by rw [hN _ (by omega)]; exact h4, fun i hi hj => ?_, ?_⟩
  · rw [hN _ (by omega), hB (p + i) (by omega) (by omega)]
    exact h5 i hi hj
  · exact hd_fr (by omega) (fun j hj hk => hB j (by omega) hk) hS hN (fun i hi => congrArg fo_ (hN _ (by omega))) h6
theorem lc_mo {B PS PN : Nat → Nat} {E D p : Nat} (hE : E ≤ D) (h : lc_ B PS PN E p) : lc_ B PS PN D p := by
  obtain ⟨h1, h2, h3, h4, h5, h6⟩ := h
  exact ⟨h1, h2, h3, h4, h5, hd_mo hE h6⟩
theorem pl_fr {B PS PN C QS QN : Nat → Nat} {E : Nat} (hB : ∀ j, 12 ≤ j → j < E → C j = B j) (hS : ∀ p, p < E → QS p = PS p) (hN : ∀ j, j < 64 * E → QN j = PN j) (h : pl_ B PS PN E) : pl_ C QS QN E := by
  intro p hp hz
  rw [hS p hp] at hz ⊢
  obtain ⟨h1, h2, h3⟩ := h p hp hz
  exact ⟨h1, h2, lc_fr hp h2 (fun j hj hk => hB j (by omega) hk) hS hN h3⟩
theorem pl_2 {B PS PN : Nat → Nat} {E p : Nat} (h : pl_ B PS PN E) (hp : p < E) (hz : PS p ≠ 0) : p + 2 < E := by
  obtain ⟨h1, h2, h3, h4, h5, h6, h7, h8⟩ := h p hp hz
  have := hd_q h8
  omega
/-! X's list of places against Y's table -/
def pp_ (P : Nat → Nat) (pc : Nat) (PS : Nat → Nat) (w : Nat) : Prop :=
  (∀ i, i < pc → 12 ≤ P i ∧ P i + 2 ≤ w ∧ PS (P i) ≠ 0) ∧ (∀ i j, i < j → j < pc → P i + 2 ≤ P j) ∧ (∀ p, p < 512 → PS p ≠ 0 → ∃ i, i < pc ∧ P i = p)
theorem pp_z {P PS : Nat → Nat} {pc w p : Nat} (h : pp_ P pc PS w) (hp : w ≤ p) (h5 : p < 512) : PS p = 0 := by
  by_cases z : PS p = 0
  · exact z
  · obtain ⟨i, h1, h2⟩ := h.2.2 p h5 z
    have := (h.1 i h1).2.1
    omega
theorem pp_z0 {P PS : Nat → Nat} {pc w p : Nat} (h : pp_ P pc PS w) (hp : p < 12) : PS p = 0 := by
  by_cases z : PS p = 0
  · exact z
  · obtain ⟨i, h1, h2⟩ := h.2.2 p (by omega) z
    have := (h.1 i h1).1
    omega
theorem pp_mo {P PS : Nat → Nat} {pc w v : Nat} (h : pp_ P pc PS w) (hv : w ≤ v) : pp_ P pc PS v :=
  ⟨fun i hi => ⟨(h.1 i hi).1, by have := (h.1 i hi).2.1; omega, (h.1 i hi).2.2⟩, h.2.1, h.2.2⟩
theorem pp_c {P PS : Nat → Nat} {pc w : Nat} (h : pp_ P pc PS w) (h12 : 12 ≤ w) : 12 + 2 * pc ≤ w := by
  have hs : ∀ n, n < pc → 12 + 2 * n ≤ P n := by
    intro n
    induction n with
    | zero => intro hn; exact (h.1 0 hn).1
    | succ n ih =>
      intro hn
      have a := ih (by omega)
      have b := h.2.1 n (n + 1) (by omega) hn
      omega
  cases pc with
  | zero => omega
  | succ n =>
    have a := hs n (by omega)
    have b := (h.1 n (by omega)).2.1
    omega
/-! the two buffers agree below w, but for a gap of two at G -/
def ag_ (G w : Nat) (B C : Nat → Nat) : Prop := w ≤ 255 → ∀ j, j < w → (j < G ∨ G + 2 ≤ j) → C j = B j
def ws_ (G w : Nat) (B C PS PN P : Nat → Nat) (pc : Nat) : Prop :=
  (∀ j, B j < 256) ∧ ag_ G w B C ∧ pl_ B PS PN w ∧ pp_ P pc PS w ∧ (G = 1000 ∨ (G + 2 ≤ w ∧ 12 ≤ G ∧ pl_ B PS PN G ∧ PS G = 0 ∧ PS (G + 1) = 0)) ∧ 12 ≤ w ∧ w ≤ 511 ∧ (∀ j, PN j < 256)
theorem by_u {B : Nat → Nat} {k v : Nat} (h : ∀ j, B j < 256) (hv : v < 256) : ∀ j, ar_u B k v j < 256 := by
  intro j
  by_cases z : j = k
  · subst z; rw [ar_us]; exact hv
  · rw [ar_un z]; exact h j
theorem by_w {B f : Nat → Nat} {a n : Nat} (h : ∀ j, B j < 256) (hv : ∀ i, i < n → f i < 256) : ∀ j, ar_bw B a f n j < 256 := by
  intro j
  by_cases z : j < a ∨ a + n ≤ j
  · rw [ar_bo z]; exact h j
  · rw [ar_bi (by omega) (by omega)]; exact hv _ (by omega)
theorem ws_put {G w v : Nat} {B C PS PN P : Nat → Nat} {pc : Nat} (h : ws_ G w B C PS PN P pc) (hv : v < 256) (hw : w + 1 ≤ 511) : ws_ G (w + 1) (ar_u B w v) (ar_u C w v) PS PN P pc := by
  obtain ⟨h1, h2, h3, h4, h5, h6, h7, h0⟩ := h
  have hf : ∀ E, E ≤ w → pl_ B PS PN E → pl_ (ar_u B w v) PS PN E := fun E hE hl => pl_fr (fun j _ hj => ar_un (by omega)) (fun _ _ => rfl) (fun _ _ => rfl) hl
  refine ⟨by_u h1 hv, ?_, ?_, pp_mo h4 (by omega), ?_, by omega, hw, h0⟩
  · intro h9 j hj hg
    by_cases z : j = w
    · subst z; rw [ar_us, ar_us]
    · rw [ar_un z, ar_un z]
      exact h2 (by omega) j (by omega) hg
  · intro p hp hz
    by_cases z : p = w
    · subst z
      exact absurd (pp_z h4 (Nat.le_refl _) (by omega)) hz
    · obtain ⟨k1, k2, k3⟩ := hf w (Nat.le_refl _) h3 p (by omega) hz
      exact ⟨k1, k2, lc_mo (by omega) k3⟩
  · rcases h5 with h5 | ⟨k1, k2, k3, k4⟩
    · exact Or.inl h5
    · exact Or.inr ⟨by omega, k2, hf G (by omega) k3, k4⟩
theorem ws_gap {w : Nat} {B C PS PN P : Nat → Nat} {pc : Nat} (h : ws_ 1000 w B C PS PN P pc) (hw : w + 2 ≤ 511) : ws_ w (w + 2) (ar_u (ar_u B w 0) (w + 1) 0) C PS PN P pc := by
  obtain ⟨h1, h2, h3, h4, h5, h6, h7, h0⟩ := h
  have hf : pl_ (ar_u (ar_u B w 0) (w + 1) 0) PS PN w := pl_fr (fun j _ hj => by rw [ar_un (by omega), ar_un (by omega)]) (fun _ _ => rfl) (fun _ _ => rfl) h3
  refine ⟨by_u (by_u h1 (by decide)) (by decide), ?_, ?_, pp_mo h4 (by omega), ?_, by omega, hw, h0⟩
  · intro h9 j hj hg
    rw [ar_un (by omega), ar_un (by omega)]
    exact h2 (by omega) j (by omega) (by omega)
  · intro p hp hz
    by_cases z : p < w
    · obtain ⟨k1, k2, k3⟩ := hf p z hz
      exact ⟨k1, k2, lc_mo (by omega) k3⟩
    · exact absurd (pp_z h4 (by omega) (by omega)) hz
  · exact Or.inr ⟨Nat.le_refl _, h6, hf, pp_z h4 (Nat.le_refl _) (by omega), pp_z h4 (by omega) (by omega)⟩
theorem ws_fill {G w a b : Nat} {B C PS PN P : Nat → Nat} {pc : Nat} (h : ws_ G w B C PS PN P pc) (hG : G ≠ 1000) (ha : a < 256) (hb : b < 256) : ws_ 1000 w (ar_u (ar_u B G a) (G + 1) b) (ar_u (ar_u C G a) (G + 1) b) PS PN P pc := by
  obtain ⟨h1, h2, h3, h4, h5, h6, h7, h0⟩ := h
  rcases h5 with h5 | ⟨k1, k2, k3, k4, k5⟩
  · exact absurd h5 hG
  refine ⟨by_u (by_u h1 ha) hb, ?_, ?_, h4, Or.inl rfl, h6, h7, h0⟩
  · intro h9 j hj _
    by_cases z : j = G + 1
    · subst z; rw [ar_us, ar_us]
    · rw [ar_un z, ar_un z]
      by_cases z : j = G
      · subst z; rw [ar_us, ar_us]
      · rw [ar_un z, ar_un z]
        exact h2 h9 j hj (by omega)
  · intro p hp hz
    have n1 : p ≠ G := fun e => hz (by rw [e]; exact k4)
    have n2 : p ≠ G + 1 := fun e => hz (by rw [e]; exact k5)
    by_cases z : p < G
    · obtain ⟨m1, m2, m3⟩ := k3 p z hz
      refine ⟨m1, m2, lc_mo (by omega) (lc_fr z m2 (fun j _ hj => ?_) (fun _ _ => rfl) (fun _ _ => rfl) m3)⟩
      rw [ar_un (by omega), ar_un (by omega)]
    · obtain ⟨m1, m2, m3⟩ := h3 p hp hz
      refine ⟨m1, m2, lc_fr hp m2 (fun j hj _ => ?_) (fun _ _ => rfl) (fun _ _ => rfl) m3⟩
      rw [ar_un (by omega), ar_un (by omega)]
theorem ws_hdr {G w k v : Nat} {B C PS PN P : Nat → Nat} {pc : Nat} (h : ws_ G w B C PS PN P pc) (hk : k < 12) (hv : v < 256) : ws_ G w (ar_u B k v) (ar_u C k v) PS PN P pc := by
  obtain ⟨h1, h2, h3, h4, h5, h6, h7, h0⟩ := h
  have hf : ∀ E, pl_ B PS PN E → pl_ (ar_u B k v) PS PN E := fun E hl => pl_fr (fun j _ hj => ar_un (by omega)) (fun _ _ => rfl) (fun _ _ => rfl) hl
  refine ⟨by_u h1 hv, ?_, hf w h3, h4, ?_, h6, h7, h0⟩
  · intro h9 j hj hg
    by_cases z : j = k
    · subst z; rw [ar_us, ar_us]
    · rw [ar_un z, ar_un z]
      exact h2 h9 j hj hg
  · rcases h5 with h5 | ⟨k1, k2, k3, k4⟩
    · exact Or.inl h5
    · exact Or.inr ⟨k1, k2, hf G k3, k4⟩
/-! cut back to E -/
def ct_ (PS : Nat → Nat) (E : Nat) : Nat → Nat := ar_bw PS E (fun _ => 0) (512 - E)
theorem ct_lo {PS : Nat → Nat} {E p : Nat} (h : p < E) : ct_ PS E p = PS p := ar_bo (by omega)
theorem ct_hi {PS : Nat → Nat} {E p : Nat} (h : E ≤ p) (h5 : p < 512) : ct_ PS E p = 0 := ar_bi h (by omega)
theorem ws_cut {w E q : Nat} {B C PS PN P : Nat → Nat} {pc : Nat} (h : ws_ 1000 w B C PS PN P pc) (hE : E ≤ w) (h12 : 12 ≤ E) (hl : pl_ B PS PN E) (hg : ∀ j, j < E → C j = B j) (hq : q ≤ pc) (q1 : ∀ i, i < q → P i < E) (q2 : ∀ i, q ≤ i → i < pc → E ≤ P i) : ws_ 1000 E B C (ct_ PS E) PN P q := by
  obtain ⟨h1, h2, h3, ⟨p1, p2, p3⟩, h5, h6, h7, h0⟩ := h
  refine ⟨h1, fun _ j hj _ => hg j hj, pl_fr (fun _ _ _ => rfl) (fun p hp => ct_lo hp) (fun _ _ => rfl) hl, ⟨fun i hi => ?_, fun i j hi hj => p2 i j hi (by omega), fun p hp hz => ?_⟩, Or.inl rfl, h12, by omega, h0⟩
  · have a := q1 i hi
    have b := (p1 i (by omega)).2.2
    have c := pl_2 hl a b
    rw [ct_lo a]
    exact ⟨(p1 i (by omega)).1, by omega, b⟩
  · by_cases z : p < E
    · rw [ct_lo z] at hz
      obtain ⟨i, k1, k2⟩ := p3 p hp hz
      refine ⟨i, ?_, k2⟩
      by_cases y : i < q
      · exact y
      · have := q2 i (by omega) k1
        omega
    · exact absurd (ct_hi (by omega) hp) hz
/-! what a writer leaves alone -/
def fr_ (w pc : Nat) (B C PS PN P B1 C1 PS1 PN1 P1 : Nat → Nat) (pc1 : Nat) : Prop :=
  (∀ j, j < w → B1 j = B j) ∧ (∀ j, j < w → C1 j = C j) ∧ (∀ j, j < w → PS1 j = PS j) ∧ (∀ j, j < 64 * w → PN1 j = PN j) ∧ (∀ i, i < pc → P1 i = P i) ∧ pc ≤ pc1
theorem fr_rf {w pc : Nat} {B C PS PN P : Nat → Nat} : fr_ w pc B C PS PN P B C PS PN P pc :=
  ⟨fun _ _ => rfl, fun _ _ => rfl, fun _ _ => rfl, fun _ _ => rfl, fun _ _ => rfl, Nat.le_refl _⟩
theorem fr_tr {w v pc pc1 pc2 : Nat} {B C PS PN P B1 C1 PS1 PN1 P1 B2 C2 PS2 PN2 P2 : Nat → Nat} (hv : w ≤ v) (h : fr_ w pc B C PS PN P B1 C1 PS1 PN1 P1 pc1) (k : fr_ v pc1 B1 C1 PS1 PN1 P1 B2 C2 PS2 PN2 P2 pc2) : fr_ w pc B C PS PN P B2 C2 PS2 PN2 P2 pc2 := by
  obtain ⟨h1, h2, h3, h4, h5, h6⟩ := h
  obtain ⟨k1, k2, k3, k4, k5, k6⟩ := k
  exact ⟨fun j hj => (k1 j (by omega)).trans (h1 j hj), fun j hj => (k2 j (by omega)).trans (h2 j hj), fun j hj => (k3 j (by omega)).trans (h3 j hj), fun j hj => (k4 j (by omega)).trans (h4 j hj), fun i hi => (k5 i (by omega)).trans (h5 i hi), by omega⟩
theorem fr_u {w pc k a k' a' : Nat} {B C PS PN P : Nat → Nat} (h : w ≤ k) (h' : w ≤ k') : fr_ w pc B C PS PN P (ar_u B k a) (ar_u C k' a') PS PN P pc :=
  ⟨fun _ _ => ar_un (by omega), fun _ _ => ar_un (by omega), fun _ _ => rfl, fun _ _ => rfl, fun _ _ => rfl, Nat.le_refl _⟩
theorem fr_uX {w pc k a : Nat} {B C PS PN P : Nat → Nat} (h : w ≤ k) : fr_ w pc B C PS PN P (ar_u B k a) C PS PN P pc :=
  ⟨fun _ _ => ar_un (by omega), fun _ _ => rfl, fun _ _ => rfl, fun _ _ => rfl, fun _ _ => rfl, Nat.le_refl _⟩
theorem fr_pl {w E pc pc1 : Nat} {B C PS PN P B1 C1 PS1 PN1 P1 : Nat → Nat} (h : fr_ w pc B C PS PN P B1 C1 PS1 PN1 P1 pc1) (hE : E ≤ w) (hl : pl_ B PS PN E) : pl_ B1 PS1 PN1 E :=
  pl_fr (fun j _ hj => h.1 j (by omega)) (fun p hp => h.2.2.1 p (by omega)) (fun j hj => h.2.2.2.1 j (by omega)) hl
/-! the built message as the relation holds it -/
def cn_ (se : Nat → Nat) (s : Nat) : Nat → Nat
  | 0 => 0
  | n + 1 => cn_ se s n + (if se n = s then 1 else 0)
theorem cn_le {se : Nat → Nat} {s : Nat} : ∀ n, cn_ se s n ≤ n := by
  intro n
  induction n with
  | zero => exact Nat.le_refl _
  | succ n ih => unfold cn_; split <;> omega
theorem cn_fr {se sf : Nat → Nat} {s : Nat} : ∀ n, (∀ i, i < n → sf i = se i) → cn_ sf s n = cn_ se s n := by
  intro n
  induction n with
  | zero => intro _; rfl
  | succ n ih =>
    intro h
    unfold cn_
    rw [ih (fun i hi => h i (by omega)), h n (by omega)]
def bl_ (cap lim bs bi : Nat) (B C st se PS PN P : Nat → Nat) (pc : Nat) : Prop :=
  32 ≤ cap ∧ cap ≤ 255 ∧ 2 ≤ lim ∧ lim ≤ 16 ∧ bs ≤ cap ∧ bi ≤ lim ∧ ws_ 1000 bs B C PS PN P pc ∧ (∀ s, s < 4 → B (5 + 2 * s) = cn_ se s bi) ∧
  (∀ i, i < bi → se i ≤ 3 ∧ 12 ≤ st i ∧ st i ≤ bs ∧ pl_ B PS PN (st i)) ∧ (∀ i j, i < j → j < bi → st i ≤ st j)
theorem bl_ag {cap lim bs bi : Nat} {B C st se PS PN P : Nat → Nat} {pc : Nat} (h : bl_ cap lim bs bi B C st se PS PN P pc) : ∀ j, j < bs → C j = B j := by
  obtain ⟨h1, h2, h3, h4, h5, h6, ⟨_, k2, _, _, _, _, k7, _⟩, _⟩ := h
  exact fun j hj => k2 (by omega) j hj (by omega)
theorem bl_commit {cap lim bs bi s w : Nat} {B C st se PS PN P B1 C1 PS1 PN1 P1 : Nat → Nat} {pc pc1 : Nat} (h : bl_ cap lim bs bi B C st se PS PN P pc) (hw : ws_ 1000 w B1 C1 PS1 PN1 P1 pc1) (hf : fr_ bs pc B C PS PN P B1 C1 PS1 PN1 P1 pc1) (hc : w ≤ cap) (hb : bi < lim) (hs : s < 4) (h9 : bs ≤ w) :
    bl_ cap lim w (bi + 1) (ar_u B1 (5 + 2 * s) (B1 (5 + 2 * s) + 1)) (ar_u C1 (5 + 2 * s) (C1 (5 + 2 * s) + 1)) (ar_u st bi bs) (ar_u se bi s) PS1 PN1 P1 pc1 := by
  have hg := bl_ag h
  obtain ⟨h1, h2, h3, h4, h5, h6, h7, h8, h10, h11⟩ := h
  have h12 : 12 ≤ bs := h7.2.2.2.2.2.1
  have e1 : B1 (5 + 2 * s) = cn_ se s bi := by rw [hf.1 _ (by omega)]; exact h8 s hs
  have e2 : C1 (5 + 2 * s) = B1 (5 + 2 * s) := by rw [hf.1 _ (by omega), hf.2.1 _ (by omega)]; exact hg _ (by omega)
  have e3 := cn_le (se := se) (s := s) bi
  rw [e2]
  refine ⟨h1, h2, h3, h4, hc, hb, ws_hdr hw (by omega) (by omega), fun r hr => ?_, fun i hi => ?_, fun i j hi hj => ?_⟩
  · have e4 : cn_ (ar_u se bi s) r bi = cn_ se r bi := cn_fr bi (fun i hi => ar_un (by omega))
    show _ = cn_ (ar_u se bi s) r bi + (if ar_u se bi s bi = r then 1 else 0)
    rw [e4, ar_us]
    by_cases z : r = s
    · subst z; rw [ar_us, if_pos rfl, e1]
    · rw [ar_un (by omega), if_neg (fun e => z e.symm), hf.1 _ (by omega)]
      exact h8 r hr
  · by_cases z : i = bi
    · subst z
      rw [ar_us, ar_us]
      refine ⟨by omega, h12, h9, ?_⟩
      exact pl_fr (fun j h12 _ => ar_un (by omega)) (fun _ _ => rfl) (fun _ _ => rfl) (fr_pl hf (Nat.le_refl _) h7.2.2.1)
    · rw [ar_un z, ar_un z]
      obtain ⟨k1, k2, k3, k4⟩ := h10 i (by omega)
      exact ⟨k1, k2, by omega, pl_fr (fun j h12 _ => ar_un (by omega)) (fun _ _ => rfl) (fun _ _ => rfl) (fr_pl hf k3 k4)⟩
  · by_cases z : j = bi
    · subst z
      rw [ar_us, ar_un (by omega)]
      exact (h10 i (by omega)).2.2.1
    · rw [ar_un z, ar_un (by omega)]
      exact h11 i j hi (by omega)
theorem bl_abort {cap lim bs bi w q : Nat} {B C st se PS PN P B1 C1 PS1 PN1 P1 : Nat → Nat} {pc pc1 : Nat} (h : bl_ cap lim bs bi B C st se PS PN P pc) (hw : ws_ 1000 w B1 C1 PS1 PN1 P1 pc1) (hf : fr_ bs pc B C PS PN P B1 C1 PS1 PN1 P1 pc1) (h9 : bs ≤ w) (hq : q ≤ pc1) (q1 : ∀ i, i < q → P1 i < bs) (q2 : ∀ i, q ≤ i → i < pc1 → bs ≤ P1 i) :
    bl_ cap lim bs bi B1 C1 st se (ct_ PS1 bs) PN1 P1 q := by
  have hg := bl_ag h
  obtain ⟨h1, h2, h3, h4, h5, h6, h7, h8, h10, h11⟩ := h
  have h12 : 12 ≤ bs := h7.2.2.2.2.2.1
  have hl := fr_pl hf (Nat.le_refl _) h7.2.2.1
  refine ⟨h1, h2, h3, h4, h5, h6, ws_cut hw h9 h12 hl (fun j hj => by rw [hf.1 j hj, hf.2.1 j hj]; exact hg j hj) hq q1 q2, fun s hs => by rw [hf.1 _ (by omega)]; exact h8 s hs, fun i hi => ?_, h11⟩
  obtain ⟨k1, k2, k3, k4⟩ := h10 i hi
  exact ⟨k1, k2, k3, pl_fr (fun _ _ _ => rfl) (fun p hp => ct_lo (by omega)) (fun _ _ => rfl) (fr_pl hf k3 k4)⟩
theorem bl_or2 {cap lim bs bi : Nat} {B C st se PS PN P : Nat → Nat} {pc : Nat} (h : bl_ cap lim bs bi B C st se PS PN P pc) : bl_ cap lim bs bi (ar_u B 2 (B 2 ||| 2)) (ar_u C 2 (C 2 ||| 2)) st se PS PN P pc := by
  have hg := bl_ag h
  obtain ⟨h1, h2, h3, h4, h5, h6, h7, h8, h10, h11⟩ := h
  have h12 : 12 ≤ bs := h7.2.2.2.2.2.1
  rw [hg 2 (by omega)]
  refine ⟨h1, h2, h3, h4, h5, h6, ws_hdr h7 (by decide) (bb_o2 (h7.1 2)), fun s hs => by rw [ar_un (by omega)]; exact h8 s hs, fun i hi => ?_, h11⟩
  obtain ⟨k1, k2, k3, k4⟩ := h10 i hi
  exact ⟨k1, k2, k3, pl_fr (fun j h12 _ => ar_un (by omega)) (fun _ _ => rfl) (fun _ _ => rfl) k4⟩
theorem bl_drop {cap lim bs bi q : Nat} {B C st se PS PN P : Nat → Nat} {pc : Nat} (h : bl_ cap lim bs (bi + 1) B C st se PS PN P pc) (hq : q ≤ pc) (q1 : ∀ i, i < q → P i < st bi) (q2 : ∀ i, q ≤ i → i < pc → st bi ≤ P i) :
    bl_ cap lim (st bi) bi (ar_u B (5 + 2 * se bi) (B (5 + 2 * se bi) - 1)) (ar_u C (5 + 2 * se bi) (C (5 + 2 * se bi) - 1)) st se (ct_ PS (st bi)) PN P q := by
  have hg := bl_ag h
  obtain ⟨h1, h2, h3, h4, h5, h6, h7, h8, h10, h11⟩ := h
  have h12 : 12 ≤ bs := h7.2.2.2.2.2.1
  obtain ⟨k1, k2, k3, k4⟩ := h10 bi (by omega)
  have e1 := h8 (se bi) (by omega)
  have e3 := cn_le (se := se) (s := se bi) (bi + 1)
  rw [hg _ (by omega)]
  refine ⟨h1, h2, h3, h4, by omega, by omega, ?_, fun r hr => ?_, fun i hi => ?_, fun i j hi hj => h11 i j hi (by omega)⟩
  · refine ws_cut (ws_hdr h7 (by omega) (by omega)) k3 k2 (pl_fr (fun j h12 _ => ar_un (by omega)) (fun _ _ => rfl) (fun _ _ => rfl) k4) (fun j hj => ?_) hq q1 q2
    by_cases z : j = 5 + 2 * se bi
    · subst z; rw [ar_us, ar_us]
    · rw [ar_un z, ar_un z]
      exact hg j (by omega)
  · have e := h8 r hr
    have e' : cn_ se r (bi + 1) = cn_ se r bi + (if se bi = r then 1 else 0) := rfl
    by_cases z : r = se bi
    · subst z
      rw [if_pos rfl] at e'
      rw [ar_us]
      omega
    · rw [if_neg (fun y => z y.symm)] at e'
      rw [ar_un (by omega)]
      omega
  · obtain ⟨m1, m2, m3, m4⟩ := h10 i (by omega)
    have m5 := h11 i bi hi (by omega)
    exact ⟨m1, m2, m5, pl_fr (fun j h12 _ => ar_un (by omega)) (fun p hp => ct_lo (by omega)) (fun _ _ => rfl) m4⟩
theorem bl_begin {cap lim bs bi : Nat} {B C st se PS PN P B1 C1 : Nat → Nat} {pc : Nat} (h : bl_ cap lim bs bi B C st se PS PN P pc) (hb : ∀ j, B1 j < 256) (hg : ∀ j, j < 12 → C1 j = B1 j) (hz : ∀ s, s < 4 → B1 (5 + 2 * s) = 0) : bl_ cap lim 12 0 B1 C1 st se (ct_ PS 12) PN P 0 := by
  obtain ⟨h1, h2, h3, h4, h5, h6, ⟨_, _, _, h7, _, _, _, h0⟩, h8, h10, h11⟩ := h
  have z0 : ∀ p, p < 512 → ct_ PS 12 p = 0 := by
    intro p hp
    by_cases z : p < 12
    · rw [ct_lo z]; exact pp_z0 h7 z
    · exact ct_hi (by omega) hp
  refine ⟨h1, h2, h3, h4, by omega, Nat.zero_le _, ⟨hb, fun _ j hj _ => hg j hj, fun p hp hn => absurd (z0 p (by omega)) hn, ⟨fun i hi => absurd hi (Nat.not_lt_zero i), fun i j _ hj => absurd hj (Nat.not_lt_zero j), fun p hp hn => absurd (z0 p hp) hn⟩, Or.inl rfl, Nat.le_refl _, by decide, h0⟩, hz, fun i hi => absurd hi (Nat.not_lt_zero i), fun i j _ hj => absurd hj (Nat.not_lt_zero j)⟩
end
section
/-! small walks -/
section SMALL
variable {xca xli xtt xpf xbs xbi xwe xda xpc xis xpr xic xrp xne : Int32} {xsn xss xbu xst xse xpl xin xs xty xcl : Nat → Int32} {xtl : Nat → Int64} {xds xdl : Nat → Int32} {xva : Nat → Int64} {xnm xns xna xnp : Nat → Int32}
variable {yca yli ytt ypf ybs ybi yis ypr yic yne yie yde : Int32} {ysn yss ybu yst yse yps ypn yin : Nat → Int32} {yfa : Nat → Int64} {yfo yfs : Nat → Int32} {ynn : Nat}
variable {A B C D P PS PN st se sz b : Nat → Nat}
theorem e5_ (s : Nat) : 5 + 2 * nI s = nI (5 + 2 * s) := by rw [ix_2]; exact nI_add 5 _
theorem x_fold {post : Int32 → Prop} {x : Nat} {p : Int32} (hp : p = nI x) (hx : x < 512) (h : post (nI (fo_ x))) : wpX_fold post (xca, xli, xtt, xpf, xbs, xbi, xwe, xda, xpc, xis, xpr, xic, xrp, xne, xsn, xss, xbu, xst, xse, xpl, xin, xs, xty, xcl, xtl, xds, xdl, xva, xnm, xns, xna, xnp) p := by
  subst hp
  exact pk_lt x 65 (fun h1 => by rw [fo_lo h1] at h; exact h) (fun h1 => pk_lt 90 x (fun h2 => by rw [fo_hi h2] at h; exact h) (fun h2 => by
    rw [fo_mi h1 h2] at h
    rw [show nI x + 32 = nI (x + 32) from nI_add x 32]
    exact h))
theorem y_fold {post : Int32 → Prop} {x : Nat} {p : Int32} (hp : p = nI x) (hx : x < 512) (h : post (nI (fo_ x))) : wpY_lower post (yca, yli, ytt, ypf, ybs, ybi, yis, ypr, yic, yne, yie, yde, ysn, yss, ybu, yst, yse, yps, ypn, yin, yfa, yfo, yfs, ynn) p := by
  subst hp
  exact pk_lt x 65 (fun h1 => by rw [fo_lo h1] at h; exact h) (fun h1 => pk_lt 90 x (fun h2 => by rw [fo_hi h2] at h; exact h) (fun h2 => by
    rw [fo_mi h1 h2] at h
    rw [show nI x + 32 = nI (x + 32) from nI_add x 32]
    exact h))
theorem x_slot {post : Int32 → Prop} {s : Nat} (hs : s < 4) (h : post 1) : wpX_isSlot post (xca, xli, xtt, xpf, xbs, xbi, xwe, xda, xpc, xis, xpr, xic, xrp, xne, xsn, xss, xbu, xst, xse, xpl, xin, xs, xty, xcl, xtl, xds, xdl, xva, xnm, xns, xna, xnp) (nI s) :=
  br_f (nI_pos (by omega)) (br_f (nI_ge (b := 4) hs (by decide)) h)
theorem x_nslot {post : Int32 → Prop} {p0 : Int32} (hn : p0 < 0 ∨ nI 4 ≤ p0) (h : post 0) : wpX_isSlot post (xca, xli, xtt, xpf, xbs, xbi, xwe, xda, xpc, xis, xpr, xic, xrp, xne, xsn, xss, xbu, xst, xse, xpl, xin, xs, xty, xcl, xtl, xds, xdl, xva, xnm, xns, xna, xnp) p0 := by
  by_cases h0 : p0 < 0
  · exact br_t h0 h
  · exact br_f h0 (br_t (hn.resolve_left h0) h)
theorem x_sec {post : Int32 → Prop} {s : Nat} (h1 : 1 ≤ s) (h3 : s < 4) (h : post 1) : wpX_isRecordSection post (xca, xli, xtt, xpf, xbs, xbi, xwe, xda, xpc, xis, xpr, xic, xrp, xne, xsn, xss, xbu, xst, xse, xpl, xin, xs, xty, xcl, xtl, xds, xdl, xva, xnm, xns, xna, xnp) (nI s) :=
  br_f (nI_nlt (b := 1) h1 (by omega)) (br_f (nI_nlt (a := 3) (by omega) (by decide)) h)
theorem x_nsec {post : Int32 → Prop} {p0 : Int32} (hn : p0 < 1 ∨ 3 < p0) (h : post 0) : wpX_isRecordSection post (xca, xli, xtt, xpf, xbs, xbi, xwe, xda, xpc, xis, xpr, xic, xrp, xne, xsn, xss, xbu, xst, xse, xpl, xin, xs, xty, xcl, xtl, xds, xdl, xva, xnm, xns, xna, xnp) p0 := by
  by_cases h0 : p0 < 1
  · exact br_t h0 h
  · exact br_f h0 (br_t (hn.resolve_left h0) h)
theorem x_byte {post : Int32 → Prop} {t : Int64} {i : Nat} (hi : i < 8) (h : post (nI (tx_b t i))) : wpX_byteOf post (xca, xli, xtt, xpf, xbs, xbi, xwe, xda, xpc, xis, xpr, xic, xrp, xne, xsn, xss, xbu, xst, xse, xpl, xin, xs, xty, xcl, xtl, xds, xdl, xva, xnm, xns, xna, xnp) t (nI i) := by
  show post _
  rw [tx_e t hi]
  exact h
theorem y_byte {post : Int32 → Prop} {t : Int64} {i : Nat} (hi : i < 8) (h : post (nI (tx_b t i))) : wpY_textByte post (yca, yli, ytt, ypf, ybs, ybi, yis, ypr, yic, yne, yie, yde, ysn, yss, ybu, yst, yse, yps, ypn, yin, yfa, yfo, yfs, ynn) t (nI i) := by
  show post _
  rw [tx_e t hi]
  exact h
theorem tl_lp (t : Int64) : ∀ d i, i + d = 8 → ∃ L, L ≤ 8 ∧ (∀ (xca xli xtt xpf xbs xbi xwe xda xpc xis xpr xic xrp xne : Int32) (xsn xss xbu xst xse xpl xin xs xty xcl : Nat → Int32) (xtl : Nat → Int64) (xds xdl : Nat → Int32) (xva : Nat → Int64) (xnm xns xna xnp : Nat → Int32) (post : Int32 → Prop), post (nI L) → wX_textLength_2 post t xca xli xtt xpf xbs xbi xwe xda xpc xis xpr xic xrp xne xsn xss xbu xst xse xpl xin xs xty xcl xtl xds xdl xva xnm xns xna xnp (d + 1) (nI i)) ∧ (∀ (yca yli ytt ypf ybs ybi yis ypr yic yne yie yde : Int32) (ysn yss ybu yst yse yps ypn yin : Nat → Int32) (yfa : Nat → Int64) (yfo yfs : Nat → Int32) (ynn : Nat) (post : Int32 → Prop), post (nI L) → wY_textLength_2 post t yca yli ytt ypf ybs ybi yis ypr yic yne yie yde ysn yss ybu yst yse yps ypn yin yfa yfo yfs ynn (d + 1) (nI i)) := by
  intro d
  induction d with
  | zero =>
    intro i hi
    have e : i = 8 := by omega
    subst e
    refine ⟨8, Nat.le_refl _, ?_, ?_⟩
    · intros
      rename_i post h
      exact br_t (by decide) h
    · intros
      rename_i post h
      exact br_t (by decide) h
  | succ d ih =>
    intro i hi
    have h8 : ¬ (8 : Int32) ≤ nI i := nI_ge (b := 8) (by omega) (by decide)
    have hb : tx_b t i < 256 := tx_lt
    by_cases z : tx_b t i = 0
    · refine ⟨i, by omega, ?_, ?_⟩
      · intros
        rename_i post h
        exact br_f h8 (x_byte (by omega) (br_t (by rw [z]; rfl) h))
      · intros
        rename_i post h
        exact br_f h8 (y_byte (by omega) (br_t (by rw [z]; rfl) h))
    · obtain ⟨L, hL, hX, hY⟩ := ih (i + 1) (by omega)
      have hn : ¬ nI (tx_b t i) = 0 := fun e => z ((nI_i0 (by omega)).mp e)
      refine ⟨L, hL, ?_, ?_⟩
      · intros
        rename_i post h
        refine br_f h8 (x_byte (by omega) (br_f hn (nm_r (nI_1 i) ?_)))
        apply hX
        exact h
      · intros
        rename_i post h
        refine br_f h8 (y_byte (by omega) (br_f hn (nm_r (nI_1 i) ?_)))
        apply hY
        exact h
theorem tl_ex (t : Int64) : ∃ L, L ≤ 8 ∧ (∀ (xca xli xtt xpf xbs xbi xwe xda xpc xis xpr xic xrp xne : Int32) (xsn xss xbu xst xse xpl xin xs xty xcl : Nat → Int32) (xtl : Nat → Int64) (xds xdl : Nat → Int32) (xva : Nat → Int64) (xnm xns xna xnp : Nat → Int32) (post : Int32 → Prop), post (nI L) → wpX_textLength post (xca, xli, xtt, xpf, xbs, xbi, xwe, xda, xpc, xis, xpr, xic, xrp, xne, xsn, xss, xbu, xst, xse, xpl, xin, xs, xty, xcl, xtl, xds, xdl, xva, xnm, xns, xna, xnp) t) ∧ (∀ (yca yli ytt ypf ybs ybi yis ypr yic yne yie yde : Int32) (ysn yss ybu yst yse yps ypn yin : Nat → Int32) (yfa : Nat → Int64) (yfo yfs : Nat → Int32) (ynn : Nat) (post : Int32 → Prop), post (nI L) → wpY_textLength post (yca, yli, ytt, ypf, ybs, ybi, yis, ypr, yic, yne, yie, yde, ysn, yss, ybu, yst, yse, yps, ypn, yin, yfa, yfo, yfs, ynn) t) := by
  obtain ⟨L, hL, hX, hY⟩ := tl_lp t 8 0 rfl
  refine ⟨L, hL, ?_, ?_⟩
  · intros
    rename_i post h
    refine ⟨9, ?_⟩
    apply hX
    exact h
  · intros
    rename_i post h
    refine ⟨9, ?_⟩
    apply hY
    exact h
theorem x_put {post : SX → Prop} {w v : Nat} {p : Int32} (hp : p = nI v) (hw : w < 512) (h : post (xca, xli, xtt, xpf, xbs, xbi, nI (w + 1), xda, xpc, xis, xpr, xic, xrp, xne, xsn, xss, ar_I (ar_u B w v), xst, xse, xpl, xin, xs, xty, xcl, xtl, xds, xdl, xva, xnm, xns, xna, xnp)) : wpX_put post (xca, xli, xtt, xpf, xbs, xbi, nI w, xda, xpc, xis, xpr, xic, xrp, xne, xsn, xss, ar_I B, xst, xse, xpl, xin, xs, xty, xcl, xtl, xds, xdl, xva, xnm, xns, xna, xnp) p :=
  br_f (nI_ge (b := 512) hw (by decide)) ⟨vp_in_nI hw (by decide), nm_r (ar_st w v rfl hp) (nm_r (nI_1 w) h)⟩
theorem x_put2 {post : SX → Prop} {w : Nat} {v : Int32} (hw : w + 2 ≤ 512) (h : post (xca, xli, xtt, xpf, xbs, xbi, nI (w + 2), xda, xpc, xis, xpr, xic, xrp, xne, xsn, xss, ar_I (ar_u (ar_u B w (bb_v v 8)) (w + 1) (bb_v v 0)), xst, xse, xpl, xin, xs, xty, xcl, xtl, xds, xdl, xva, xnm, xns, xna, xnp)) : wpX_putTwo post (xca, xli, xtt, xpf, xbs, xbi, nI w, xda, xpc, xis, xpr, xic, xrp, xne, xsn, xss, ar_I B, xst, xse, xpl, xin, xs, xty, xcl, xtl, xds, xdl, xva, xnm, xns, xna, xnp) v := by
  unfold wpX_putTwo
  refine x_put (bb_s v 8 (by decide)) (by omega) ?_
  exact x_put (bb_0 v) (by omega) h
theorem y_put2 {post : Int32 → SY → Prop} {a : Nat} {v : Int32} (ha : a + 2 ≤ 512) (h : post (nI (a + 2)) (yca, yli, ytt, ypf, ybs, ybi, yis, ypr, yic, yne, yie, yde, ysn, yss, ar_I (ar_u (ar_u C a (bb_v v 8)) (a + 1) (bb_v v 0)), yst, yse, yps, ypn, yin, yfa, yfo, yfs, ynn)) : wpY_put post (yca, yli, ytt, ypf, ybs, ybi, yis, ypr, yic, yne, yie, yde, ysn, yss, ar_I C, yst, yse, yps, ypn, yin, yfa, yfo, yfs, ynn) (nI a) v 2 :=
  ⟨3, br_f (by decide) ⟨pk_in a 512 (by omega) (Int32.add_zero _), nm_r (ar_st a (bb_v v 8) (Int32.add_zero _) (bb_s v 8 (by decide))) (nm_r (e' := 1) (by decide) (br_f (by decide) ⟨pk_in (a + 1) 512 (by omega) (nI_1 a), nm_r (ar_st (a + 1) (bb_v v 0) (nI_1 a) (bb_s v 0 (by decide))) (nm_r (e' := 2) (by decide) (br_t (by decide) (ek_v (P := fun r => post r (yca, yli, ytt, ypf, ybs, ybi, yis, ypr, yic, yne, yie, yde, ysn, yss, ar_I (ar_u (ar_u C a (bb_v v 8)) (a + 1) (bb_v v 0)), yst, yse, yps, ypn, yin, yfa, yfo, yfs, ynn)) (nI_add a 2) h)))⟩))⟩⟩
theorem y_put4 {post : Int32 → SY → Prop} {a : Nat} {v : Int32} (ha : a + 4 ≤ 512) (h : post (nI (a + 4)) (yca, yli, ytt, ypf, ybs, ybi, yis, ypr, yic, yne, yie, yde, ysn, yss, ar_I (ar_u (ar_u (ar_u (ar_u C a (bb_v v 24)) (a + 1) (bb_v v 16)) (a + 2) (bb_v v 8)) (a + 3) (bb_v v 0)), yst, yse, yps, ypn, yin, yfa, yfo, yfs, ynn)) : wpY_put post (yca, yli, ytt, ypf, ybs, ybi, yis, ypr, yic, yne, yie, yde, ysn, yss, ar_I C, yst, yse, yps, ypn, yin, yfa, yfo, yfs, ynn) (nI a) v 4 :=
  ⟨5, br_f (by decide) ⟨pk_in a 512 (by omega) (Int32.add_zero _), nm_r (ar_st a (bb_v v 24) (Int32.add_zero _) (bb_s v 24 (by decide))) (nm_r (e' := 1) (by decide)
    (br_f (by decide) ⟨pk_in (a + 1) 512 (by omega) (nI_1 a), nm_r (ar_st (a + 1) (bb_v v 16) (nI_1 a) (bb_s v 16 (by decide))) (nm_r (e' := 2) (by decide)
    (br_f (by decide) ⟨pk_in (a + 2) 512 (by omega) (nI_add a 2), nm_r (ar_st (a + 2) (bb_v v 8) (nI_add a 2) (bb_s v 8 (by decide))) (nm_r (e' := 3) (by decide)
    (br_f (by decide) ⟨pk_in (a + 3) 512 (by omega) (nI_add a 3), nm_r (ar_st (a + 3) (bb_v v 0) (nI_add a 3) (bb_s v 0 (by decide))) (nm_r (e' := 4) (by decide)
    (br_t (by decide) (ek_v (P := fun r => post r (yca, yli, ytt, ypf, ybs, ybi, yis, ypr, yic, yne, yie, yde, ysn, yss, ar_I (ar_u (ar_u (ar_u (ar_u C a (bb_v v 24)) (a + 1) (bb_v v 16)) (a + 2) (bb_v v 8)) (a + 3) (bb_v v 0)), yst, yse, yps, ypn, yin, yfa, yfo, yfs, ynn)) (nI_add a 4) h)))⟩))⟩))⟩))⟩⟩
/-! forgetting places -/
theorem x_fgl {E : Nat} (hE : E < 2 ^ 31) : ∀ pc, pc ≤ 256 → (∀ i, i < pc → P i < 2 ^ 31) → (∀ i j, i < j → j < pc → P i ≤ P j) → ∃ q, q ≤ pc ∧ (∀ i, i < q → P i < E) ∧ (∀ i, q ≤ i → i < pc → E ≤ P i) ∧ ∀ post : SX → Prop, post (xca, xli, xtt, xpf, xbs, xbi, xwe, xda, nI q, xis, xpr, xic, xrp, xne, xsn, xss, xbu, xst, xse, ar_I P, xin, xs, xty, xcl, xtl, xds, xdl, xva, xnm, xns, xna, xnp) → wX_forgetPlacesFrom_0 post (nI E) xca xli xtt xpf xbs xbi xwe xda xis xpr xic xrp xne xsn xss xbu xst xse (ar_I P) xin xs xty xcl xtl xds xdl xva xnm xns xna xnp (pc + 1) (nI pc) := by
  intro pc
  induction pc with
  | zero => exact fun _ _ _ => ⟨0, Nat.le_refl _, fun i hi => absurd hi (Nat.not_lt_zero i), fun i _ hi => absurd hi (Nat.not_lt_zero i), fun post h => br_t (by decide) h⟩
  | succ c ih =>
    intro hc hP hm
    have e : ar_I P (nI (c + 1) - 1).toNatClampNeg = nI (P c) := ar_rd c (nI_pred c)
    have hn : ¬ nI (c + 1) ≤ 0 := nI_nle (by omega) (by omega)
    have hi : vp_in (nI (c + 1) - 1) 256 := pk_in c 256 (by omega) (nI_pred c)
    have hPc := hP c (by omega)
    by_cases z : P c < E
    · refine ⟨c + 1, Nat.le_refl _, fun i hi => ?_, fun i h1 h2 => by omega, fun post h => br_f hn ⟨hi, br_t (by rw [e]; exact nI_lt z hE) h⟩⟩
      by_cases y : i = c
      · rw [y]; exact z
      · have := hm i c (by omega) (by omega)
        omega
    · obtain ⟨q, h1, h2, h3, h4⟩ := ih (by omega) (fun i hi => hP i (by omega)) (fun i j hi hj => hm i j hi (by omega))
      refine ⟨q, by omega, h2, fun i h5 h6 => ?_, fun post h => br_f hn ⟨hi, br_f (by rw [e]; exact nI_nlt (by omega) hPc) (nm_r (nI_pred c) (h4 post h))⟩⟩
      by_cases y : i = c
      · rw [y]; omega
      · exact h3 i h5 (by omega)
theorem x_fg {E pc : Nat} (hE : E < 2 ^ 31) (hc : pc ≤ 256) (hP : ∀ i, i < pc → P i < 2 ^ 31) (hm : ∀ i j, i < j → j < pc → P i ≤ P j) : ∃ q, q ≤ pc ∧ (∀ i, i < q → P i < E) ∧ (∀ i, q ≤ i → i < pc → E ≤ P i) ∧ ∀ post : SX → Prop, post (xca, xli, xtt, xpf, xbs, xbi, xwe, xda, nI q, xis, xpr, xic, xrp, xne, xsn, xss, xbu, xst, xse, ar_I P, xin, xs, xty, xcl, xtl, xds, xdl, xva, xnm, xns, xna, xnp) → wpX_forgetPlacesFrom post (xca, xli, xtt, xpf, xbs, xbi, xwe, xda, nI pc, xis, xpr, xic, xrp, xne, xsn, xss, xbu, xst, xse, ar_I P, xin, xs, xty, xcl, xtl, xds, xdl, xva, xnm, xns, xna, xnp) (nI E) := by
  obtain ⟨q, h1, h2, h3, h4⟩ := x_fgl (xca := xca) (xli := xli) (xtt := xtt) (xpf := xpf) (xbs := xbs) (xbi := xbi) (xwe := xwe) (xda := xda) (xis := xis) (xpr := xpr) (xic := xic) (xrp := xrp) (xne := xne) (xsn := xsn) (xss := xss) (xbu := xbu) (xst := xst) (xse := xse) (xin := xin) (xs := xs) (xty := xty) (xcl := xcl) (xtl := xtl) (xds := xds) (xdl := xdl) (xva := xva) (xnm := xnm) (xns := xns) (xna := xna) (xnp := xnp) hE pc hc hP hm
  exact ⟨q, h1, h2, h3, fun post h => ⟨pc + 1, h4 post h⟩⟩
theorem y_fgl {post : SY → Prop} {bs : Nat} (hp : post (yca, yli, ytt, ypf, nI bs, ybi, yis, ypr, yic, yne, yie, yde, ysn, yss, ybu, yst, yse, ar_I (ct_ PS bs), ypn, yin, yfa, yfo, yfs, ynn)) : ∀ d i n, bs + i + d = 512 → d < n → wY_forgetPlaces_5 post yca yli ytt ypf (nI bs) ybi yis ypr yic yne yie yde ynn n (nI (bs + i)) ysn yss ybu yst yse (ar_I (ar_bw PS bs (fun _ => 0) i)) ypn yin yfa yfo yfs := by
  intro d
  induction d with
  | zero =>
    intro i n h1 h2
    obtain ⟨n, rfl⟩ : ∃ m, n = m + 1 := ⟨n - 1, by omega⟩
    have e : i = 512 - bs := by omega
    subst e
    refine br_t ?_ hp
    rw [show bs + (512 - bs) = 512 by omega]
    decide
  | succ d ih =>
    intro i n h1 h2
    obtain ⟨n, rfl⟩ : ∃ m, n = m + 1 := ⟨n - 1, by omega⟩
    exact br_f (nI_ge (b := 512) (by omega) (by decide)) ⟨vp_in_nI (by omega) (by decide), nm_r ((ar_st (bs + i) 0).trans (congrArg ar_I ar_bS)) (nm_r (nI_1 (bs + i)) (ih (i + 1) n (by omega) (by omega)))⟩
theorem y_fg {post : SY → Prop} {bs : Nat} (hb : bs ≤ 512) (hp : post (yca, yli, ytt, ypf, nI bs, ybi, yis, ypr, yic, yne, yie, yde, ysn, yss, ybu, yst, yse, ar_I (ct_ PS bs), ypn, yin, yfa, yfo, yfs, ynn)) : wpY_forgetPlaces post (yca, yli, ytt, ypf, nI bs, ybi, yis, ypr, yic, yne, yie, yde, ysn, yss, ybu, yst, yse, ar_I PS, ypn, yin, yfa, yfo, yfs, ynn) := by
  have h := y_fgl (PS := PS) hp (512 - bs) 0 (512 - bs + 1) (by omega) (by omega)
  rw [ar_b0, Nat.add_zero] at h
  exact ⟨_, h⟩
/-! keeping or forgetting an item -/
theorem x_ok {post : Int32 → SX → Prop} {cap bs bi w s : Nat} (hw : w ≤ cap) (hc : cap ≤ 255) (hb : bi < 16) (hs : s < 4) (h : post (nI w) (nI cap, xli, xtt, xpf, nI w, nI (bi + 1), nI w, xda, xpc, xis, xpr, xic, xrp, xne, xsn, xss, ar_I (ar_u B (5 + 2 * s) (B (5 + 2 * s) + 1)), ar_I (ar_u st bi bs), ar_I (ar_u se bi s), xpl, xin, xs, xty, xcl, xtl, xds, xdl, xva, xnm, xns, xna, xnp)) :
    wpX_closeItem post (nI cap, xli, xtt, xpf, nI bs, nI bi, nI w, xda, xpc, xis, xpr, xic, xrp, xne, xsn, xss, ar_I B, ar_I st, ar_I se, xpl, xin, xs, xty, xcl, xtl, xds, xdl, xva, xnm, xns, xna, xnp) (nI s) :=
  have hi : vp_in (5 + 2 * nI s) 512 := pk_in (5 + 2 * s) 512 (by omega) (e5_ s)
  br_t (nI_le hw (by omega)) ⟨vp_in_nI hb (by decide), nm_r (ar_st bi bs) ⟨vp_in_nI hb (by decide), nm_r (ar_st bi s) (nm_r (nI_1 bi) ⟨hi, hi, nm_r (ar_st (5 + 2 * s) (B (5 + 2 * s) + 1) (e5_ s) (by rw [ar_rd (5 + 2 * s) (e5_ s)]; exact nI_1 _)) h⟩)⟩⟩
theorem y_ok {post : Int32 → SY → Prop} {cap bs bi w s : Nat} (hw : w ≤ cap) (hc : cap ≤ 255) (hb : bi < 16) (hs : s < 4) (h : post (nI w) (nI cap, yli, ytt, ypf, nI w, nI (bi + 1), yis, ypr, yic, yne, yie, yde, ysn, yss, ar_I (ar_u C (5 + 2 * s) (C (5 + 2 * s) + 1)), ar_I (ar_u st bi bs), ar_I (ar_u se bi s), yps, ypn, yin, yfa, yfo, yfs, ynn)) :
    wY_add_230 post (nI s) (nI w) (nI cap) yli ytt ypf (nI bs) (nI bi) yis ypr yic yne yie yde ysn yss (ar_I C) (ar_I st) (ar_I se) yps ypn yin yfa yfo yfs ynn :=
  have hi : vp_in (5 + 2 * nI s) 512 := pk_in (5 + 2 * s) 512 (by omega) (e5_ s)
  br_t (nI_le hw (by omega)) ⟨vp_in_nI hb (by decide), nm_r (ar_st bi bs) ⟨vp_in_nI hb (by decide), nm_r (ar_st bi s) (nm_r (nI_1 bi) ⟨hi, hi, nm_r (ar_st (5 + 2 * s) (C (5 + 2 * s) + 1) (e5_ s) (by rw [ar_rd (5 + 2 * s) (e5_ s)]; exact nI_1 _)) h⟩)⟩⟩
theorem or_2 {B : Nat → Nat} (h : B 2 < 2 ^ 31) : upd (ar_I B) 2 ((ar_I B 2) ||| 2) = ar_I (ar_u B 2 (B 2 ||| 2)) := by
  rw [show ar_I B 2 ||| 2 = nI (B 2 ||| 2) from bb_or (by omega) (by decide), ar_ux]
def o2_ (B : Nat → Nat) (s : Nat) : Nat → Nat := if s = 3 then B else ar_u B 2 (B 2 ||| 2)
theorem x_no {post : Int32 → SX → Prop} {cap bs w s q : Nat} (hw : cap < w) (hc : w < 512) (hs : s < 4) (hB : B 2 < 2 ^ 31)
    (hq : ∀ post : SX → Prop, post (nI cap, xli, xtt, xpf, nI bs, xbi, nI w, xda, nI q, xis, xpr, xic, xrp, xne, xsn, xss, ar_I B, xst, xse, xpl, xin, xs, xty, xcl, xtl, xds, xdl, xva, xnm, xns, xna, xnp) → wpX_forgetPlacesFrom post (nI cap, xli, xtt, xpf, nI bs, xbi, nI w, xda, xpc, xis, xpr, xic, xrp, xne, xsn, xss, ar_I B, xst, xse, xpl, xin, xs, xty, xcl, xtl, xds, xdl, xva, xnm, xns, xna, xnp) (nI bs))
    (h : post (-5) (nI cap, xli, xtt, xpf, nI bs, xbi, nI w, xda, nI q, xis, xpr, xic, xrp, xne, xsn, xss, ar_I (o2_ B s), xst, xse, xpl, xin, xs, xty, xcl, xtl, xds, xdl, xva, xnm, xns, xna, xnp)) : wpX_closeItem post (nI cap, xli, xtt, xpf, nI bs, xbi, nI w, xda, xpc, xis, xpr, xic, xrp, xne, xsn, xss, ar_I B, xst, xse, xpl, xin, xs, xty, xcl, xtl, xds, xdl, xva, xnm, xns, xna, xnp) (nI s) := by
  refine br_f (nI_ge hw (by omega)) (hq _ ?_)
  by_cases z : s = 3
  · have e : o2_ B s = B := if_pos z
    rw [e] at h
    exact br_t (by rw [z]; decide) h
  · have e : o2_ B s = ar_u B 2 (B 2 ||| 2) := if_neg z
    rw [e] at h
    exact br_f (nI_ge (b := 3) (by omega) (by decide)) (nm_r (or_2 hB) h)
theorem y_no {post : Int32 → SY → Prop} {cap bs w s : Nat} (hw : cap < w) (hc : w < 512) (hb : bs ≤ 512) (hs : s < 4) (hB : C 2 < 2 ^ 31)
    (h : post (-5) (nI cap, yli, ytt, ypf, nI bs, ybi, yis, ypr, yic, yne, yie, yde, ysn, yss, ar_I (o2_ C s), yst, yse, ar_I (ct_ PS bs), ypn, yin, yfa, yfo, yfs, ynn)) : wY_add_230 post (nI s) (nI w) (nI cap) yli ytt ypf (nI bs) ybi yis ypr yic yne yie yde ysn yss (ar_I C) yst yse (ar_I PS) ypn yin yfa yfo yfs ynn := by
  refine br_f (nI_ge hw (by omega)) (y_fg hb ?_)
  by_cases z : s = 3
  · have e : o2_ C s = C := if_pos z
    rw [e] at h
    exact br_t (by rw [z]; decide) h
  · have e : o2_ C s = ar_u C 2 (C 2 ||| 2) := if_neg z
    rw [e] at h
    exact br_f (nI_ge (b := 3) (by omega) (by decide)) (nm_r (or_2 hB) h)
end SMALL
end
section
/-! the search for a place -/
section FIND
variable {xca xli xtt xpf xbs xbi xwe xda xpc xis xpr xic xrp xne : Int32} {xsn xss xbu xst xse xpl xin xs xty xcl : Nat → Int32} {xtl : Nat → Int64} {xds xdl : Nat → Int32} {xva : Nat → Int64} {xnm xns xna xnp : Nat → Int32}
variable {yca yli ytt ypf ybs ybi yis ypr yic yne yie yde : Int32} {ysn yss ybu yst yse yps ypn yin : Nat → Int32} {yfa : Nat → Int64} {yfo yfs : Nat → Int32} {ynn : Nat}
variable {A B C D P PS PN st se sz b : Nat → Nat}
def mt_ (A : Nat → Nat) (k e m : Nat) (F : Nat → Nat) : Prop := m = e - k ∧ ∀ i, i < m → fo_ (F i) = fo_ (A (k + i))
theorem x_83 {post : Int32 → Prop} {J : Int32 → Int32 → Int32 → Prop} {a k x L : Nat} (ha : a + L < 512) (hk : k + L < 256) (hL : L < 64) (hB : ∀ j, B j < 256) (hA : ∀ j, A j < 256)
    (hno : ∀ i, 1 ≤ i → i ≤ L → fo_ (B (a + i)) ≠ fo_ (A (k + i)) → post 0)
    (hyes : (∀ i, 1 ≤ i → i ≤ L → fo_ (B (a + i)) = fo_ (A (k + i))) → J (nI (a + 1 + L)) (nI (k + 1 + L)) (nI (x + 1))) :
    ∀ d i n, i + d = L + 1 → 1 ≤ i → d < n → (∀ j, 1 ≤ j → j < i → fo_ (B (a + j)) = fo_ (A (k + j))) → wX_placeHolds_83 post J (nI a) (nI k) (nI x) (nI L) xca xli xtt xpf xbs xbi xwe xda xpc xis xpr xic xrp xne (ar_I A) xss (ar_I B) xst xse xpl xin xs xty xcl xtl xds xdl xva xnm xns xna xnp n (nI i) := by
  intro d
  induction d with
  | zero =>
    intro i n h1 h2 h3 h4
    obtain ⟨n, rfl⟩ : ∃ m, n = m + 1 := ⟨n - 1, by omega⟩
    exact br_t (nI_lt (by omega) (by omega)) (nm_r (ix_p a L) (nm_r (ix_p k L) (nm_r (nI_1 x) (hyes (fun j h5 h6 => h4 j h5 (by omega))))))
  | succ d ih =>
    intro i n h1 h2 h3 h4
    obtain ⟨n, rfl⟩ : ∃ m, n = m + 1 := ⟨n - 1, by omega⟩
    have f1 := fo_lt (hB (a + i))
    have f2 := fo_lt (hA (k + i))
    have b1 := hB (a + i)
    have b2 := hA (k + i)
    refine br_f (nI_nlt (by omega) (by omega)) ⟨pk_in (a + i) 512 (by omega) (nI_add a i), x_fold (ar_rd (a + i) (nI_add a i)) (by omega) ⟨pk_in (k + i) 256 (by omega) (nI_add k i), x_fold (ar_rd (k + i) (nI_add k i)) (by omega) (pk_eq (fo_ (B (a + i))) (fo_ (A (k + i))) (fun e => nm_r (nI_1 i) ?_) (fun e => hno i h2 (by omega) e))⟩⟩
    refine ih (i + 1) n (by omega) (by omega) (by omega) (fun j h5 h6 => ?_)
    by_cases z : j = i
    · rw [z]; exact e
    · exact h4 j h5 (by omega)
theorem x_51 {post : Int32 → Prop} {J : Int32 → Int32 → Int32 → Prop} {a k x : Nat} (ha : a < 512) (hk : k < 256) (hB : B a < 256) (hA : A k < 256) (hne : B a ≠ A k → post 0) (hz : B a = A k → B a = 0 → post 1)
    (hs : B a = A k → B a ≠ 0 → ∃ n, wX_placeHolds_83 post J (nI a) (nI k) (nI x) (nI (B a)) xca xli xtt xpf xbs xbi xwe xda xpc xis xpr xic xrp xne (ar_I A) xss (ar_I B) xst xse xpl xin xs xty xcl xtl xds xdl xva xnm xns xna xnp n 1) : wX_placeHolds_51 post J (nI a) (nI k) (nI x) xca xli xtt xpf xbs xbi xwe xda xpc xis xpr xic xrp xne (ar_I A) xss (ar_I B) xst xse xpl xin xs xty xcl xtl xds xdl xva xnm xns xna xnp :=
  And.intro (vp_in_nI ha (by decide)) (nm_r (ar_rd a) (And.intro (vp_in_nI hk (by decide)) (by
    rw [ar_rd k]
    exact pk_eq (B a) (A k) (fun h => pk_eq (B a) 0 (hz h) (hs h)) hne)))
theorem x_ph {post : Int32 → Prop} {E e : Nat} (hl : pl_ B PS PN E) (hE : E ≤ 511) (hB : ∀ j, B j < 256) (hA : ∀ j, A j < 256) (he : e ≤ 256) :
    ∀ n a m k x (F : Nat → Nat), e - k < n → x + (e - k) ≤ 64 → hd_ B PS PN E a m F → m ≤ 64 → wn_ A k e → (mt_ A k e m F → post 1) → (¬ mt_ A k e m F → post 0) →
    wX_placeHolds_8 post xca xli xtt xpf xbs xbi xwe xda xpc xis xpr xic xrp xne (ar_I A) xss (ar_I B) xst xse xpl xin xs xty xcl xtl xds xdl xva xnm xns xna xnp n (nI a) (nI k) (nI x) := by
  intro n
  induction n with
  | zero => intro a m k x F h1; omega
  | succ n ih =>
    intro a m k x F h1 h2 hh hm hw y1 y0
    have hke := wn_lt hw
    have hx : ¬ (64 : Int32) ≤ nI x := nI_ge (b := 64) (by omega) (by decide)
    have hAk : A k < 64 := by rcases wn_c hw with ⟨z, _⟩ | ⟨_, z, _⟩ <;> omega
    have PLC : ∀ a, a < E → PS a ≠ 0 → PS a = m → (∀ i, i < m → fo_ (F i) = fo_ (PN (64 * a + i))) → wX_placeHolds_51 post (wX_placeHolds_8 post xca xli xtt xpf xbs xbi xwe xda xpc xis xpr xic xrp xne (ar_I A) xss (ar_I B) xst xse xpl xin xs xty xcl xtl xds xdl xva xnm xns xna xnp n) (nI a) (nI k) (nI x) xca xli xtt xpf xbs xbi xwe xda xpc xis xpr xic xrp xne (ar_I A) xss (ar_I B) xst xse xpl xin xs xty xcl xtl xds xdl xva xnm xns xna xnp := by
      intro a ha hz hp hF
      obtain ⟨p12, p64, L1, L2, L3, L4, L5, L6⟩ := hl a ha hz
      have hq := hd_q L6
      have F0 : fo_ (F 0) = B a := by rw [hF 0 (by omega), Nat.add_zero, L4, fo_lo (by omega)]
      refine x_51 (by omega) (by omega) (by omega) (by omega) (fun ne => y0 (fun M => ?_)) (fun _ z => by omega) (fun e1 _ => ⟨B a + 1, ?_⟩)
      · have := M.2 0 (by omega)
        rw [F0, Nat.add_zero, fo_lo (by omega)] at this
        exact ne this
      · have hw' : 1 ≤ A k ∧ A k < 64 ∧ k + 1 + A k < e ∧ wn_ A (k + 1 + A k) e := by
          rcases wn_c hw with ⟨z, _⟩ | z
          · omega
          · exact z
        obtain ⟨w1, w2, w3, w4⟩ := hw'
        rw [← e1] at w3 w4
        have Fi : ∀ i, 1 ≤ i → i ≤ B a → fo_ (F i) = fo_ (B (a + i)) := fun i h3 h4 => by rw [hF i (by omega), L5 i h3 h4]
        refine x_83 (by omega) (by omega) L2 hB hA (fun i h3 h4 h5 => y0 (fun M => ?_)) (fun hall => ?_) (B a) 1 (B a + 1) (by omega) (by omega) (by omega) (fun j h3 h4 => by omega)
        · have := M.2 i (by omega)
          rw [Fi i h3 h4] at this
          exact h5 this
        · refine ih (a + 1 + B a) (m - (1 + B a)) (k + 1 + B a) (x + 1) (fun i => F (1 + B a + i)) (by omega) (by omega) ?_ (by omega) w4 (fun M => y1 ?_) (fun N => y0 (fun M => N ?_))
          · rw [← hp]
            refine hd_fr (by omega) (fun _ _ _ => rfl) (fun _ _ => rfl) (fun _ _ => rfl) (fun i hi => ?_) L6
            exact hF _ (by omega)
          · obtain ⟨M1, M2⟩ := M
            refine ⟨by omega, fun i hi => ?_⟩
            by_cases z : i = 0
            · rw [z, F0, Nat.add_zero, fo_lo (by omega), e1]
            · by_cases z2 : i ≤ B a
              · rw [Fi i (by omega) z2]; exact hall i (by omega) z2
              · have := M2 (i - (1 + B a)) (by omega)
                dsimp only at this
                rw [show 1 + B a + (i - (1 + B a)) = i by omega, show k + 1 + B a + (i - (1 + B a)) = k + i by omega] at this
                exact this
          · obtain ⟨M1, M2⟩ := M
            refine ⟨by omega, fun i hi => ?_⟩
            have := M2 (1 + B a + i) (by omega)
            rw [show k + (1 + B a + i) = k + 1 + B a + i by omega] at this
            exact this
    rcases hh with ⟨q1, q2, q3, q4⟩ | ⟨q1, q2, t, q3, q4, q5, q6, q7, q8⟩ | ⟨q1, q2, q3, q4⟩
    · refine br_f hx ⟨vp_in_nI (by omega) (by decide), br_t (by rw [ar_rd a, q2]; decide) (x_51 (by omega) (by omega) (by omega) (by omega) (fun ne => y0 (fun M => ?_)) (fun e1 _ => y1 ?_) (fun _ z => absurd q2 z))⟩
      · have := M.2 0 (by omega)
        rw [q4, Nat.add_zero, fo_lo (by omega)] at this
        omega
      · refine ⟨?_, fun i hi => ?_⟩
        · rcases wn_c hw with ⟨z, z1⟩ | ⟨z, _⟩ <;> omega
        · have ei : i = 0 := by omega
          rw [ei, q4, Nat.add_zero, fo_lo (by omega)]
          omega
    · have hb1 := hB a
      have hb2 := hB (a + 1)
      refine br_f hx ⟨vp_in_nI (by omega) (by decide), br_f (by rw [ar_rd a]; exact nI_nlt (b := 192) q2 (by omega)) ⟨vp_in_nI (by omega) (by decide), pk_in (a + 1) 512 (by omega) (nI_1 a), nm_r (e' := nI t) ?_ (PLC t (by omega) q6 q7 q8)⟩⟩
      rw [ar_rd a, ar_rd (a + 1) (nI_1 a), show nI (B a) - 192 = nI (B a - 192) from pk_sub (b := 192) q2, show nI (B a - 192) * 256 = nI ((B a - 192) * 256) from pk_mul _ 256, nI_add, q3]
    · obtain ⟨p12, p64, L1, L2, _⟩ := hl a q1 q2
      exact br_f hx ⟨vp_in_nI (by omega) (by decide), br_t (by rw [ar_rd a]; exact nI_lt (b := 192) (by omega) (by decide)) (PLC a q1 q2 q3 q4)⟩
theorem x_holds {post : Int32 → Prop} {E e a k : Nat} {p : Int32} (hp : p = nI a) (hl : pl_ B PS PN E) (hE : E ≤ 511) (hB : ∀ j, B j < 256) (hA : ∀ j, A j < 256) (he : e ≤ 256) (hk : e - k ≤ 64) (ha : a < E) (hz : PS a ≠ 0) (hw : wn_ A k e)
    (y1 : mt_ A k e (PS a) (fun i => PN (64 * a + i)) → post 1) (y0 : ¬ mt_ A k e (PS a) (fun i => PN (64 * a + i)) → post 0) : wpX_placeHolds post (xca, xli, xtt, xpf, xbs, xbi, xwe, xda, xpc, xis, xpr, xic, xrp, xne, ar_I A, xss, ar_I B, xst, xse, xpl, xin, xs, xty, xcl, xtl, xds, xdl, xva, xnm, xns, xna, xnp) p (nI k) := by
  subst hp
  exact ⟨65, x_ph hl hE hB hA he 65 a (PS a) k 0 _ (by omega) (by omega) (Or.inr (Or.inr ⟨ha, hz, rfl, fun _ _ => rfl⟩)) (hl a ha hz).2.1 hw y1 y0⟩
theorem x_fpl {post : Int32 → Prop} {E e k kn : Nat} (hl : pl_ B PS PN E) (hE : E ≤ 511) (hB : ∀ j, B j < 256) (hA : ∀ j, A j < 256) (he : e ≤ 256) (hk : e - k ≤ 64) (hw : wn_ A k e) (hkn : kn ≤ 256) (hP : ∀ i, i < kn → P i < E ∧ PS (P i) ≠ 0)
    (hf : ∀ i, i < kn → mt_ A k e (PS (P i)) (fun j => PN (64 * P i + j)) → (∀ j, j < i → ¬ mt_ A k e (PS (P j)) (fun i => PN (64 * P j + i))) → post (nI (P i)))
    (hn : (∀ j, j < kn → ¬ mt_ A k e (PS (P j)) (fun i => PN (64 * P j + i))) → post (-1)) :
    ∀ d i n, i + d = kn → d < n → (∀ j, j < i → ¬ mt_ A k e (PS (P j)) (fun i => PN (64 * P j + i))) → wX_findPlace_2 post (nI k) (nI kn) xca xli xtt xpf xbs xbi xwe xda xpc xis xpr xic xrp xne (ar_I A) xss (ar_I B) xst xse (ar_I P) xin xs xty xcl xtl xds xdl xva xnm xns xna xnp n (nI i) := by
  intro d
  induction d with
  | zero =>
    intro i n h1 h2 h3
    obtain ⟨n, rfl⟩ : ∃ m, n = m + 1 := ⟨n - 1, by omega⟩
    exact br_t (nI_le (by omega) (by omega)) (hn (fun j hj => h3 j (by omega)))
  | succ d ih =>
    intro i n h1 h2 h3
    obtain ⟨n, rfl⟩ : ∃ m, n = m + 1 := ⟨n - 1, by omega⟩
    have hi : vp_in (nI i) 256 := vp_in_nI (by omega) (by decide)
    refine br_f (nI_ge (by omega) (by omega)) ⟨hi, x_holds (ar_rd i) hl hE hB hA he hk (hP i (by omega)).1 (hP i (by omega)).2 hw (fun M => br_f (by decide) ⟨hi, ?_⟩) (fun M => br_t rfl (nm_r (nI_1 i) (ih (i + 1) n (by omega) (by omega) (fun j hj => ?_))))⟩
    · rw [ar_rd i]
      exact hf i (by omega) M h3
    · by_cases z : j = i
      · rw [z]; exact M
      · exact h3 j (by omega)
/-! Y's search -/
def my_ (D PS PN : Nat → Nat) (a M p : Nat) : Prop := PS p = M ∧ ∀ i, i < M → fo_ (PN (64 * p + i)) = fo_ (D (a + i))
theorem y_42 {post : Int32 → Prop} {J : Int32 → Prop} {s k M p : Nat} (hp : p < 512) (hM : M ≤ 64) (hk : 64 * s + k + M ≤ 256) (hN : ∀ j, PN j < 256) (hD : ∀ i, i < M → D (64 * s + k + i) < 256)
    (hyes : (∀ i, i < M → fo_ (PN (64 * p + i)) = fo_ (D (64 * s + k + i))) → post (nI p)) (hno : ∀ i, i < M → fo_ (PN (64 * p + i)) ≠ fo_ (D (64 * s + k + i)) → J (nI (p + 1))) :
    ∀ d i n, i + d = M → d < n → (∀ j, j < i → fo_ (PN (64 * p + j)) = fo_ (D (64 * s + k + j))) → wY_findPlace_42 post J (nI s) (nI k) (nI M) (nI p) yca yli ytt ypf ybs ybi yis ypr yic yne yie yde (ar_I D) yss ybu yst yse yps (ar_I PN) yin yfa yfo yfs 32768 n 1 (nI i) := by
  intro d
  induction d with
  | zero =>
    intro i n h1 h2 h3
    obtain ⟨n, rfl⟩ : ∃ m, n = m + 1 := ⟨n - 1, by omega⟩
    exact br_t (nI_le (by omega) (by omega)) (br_f (by decide) (hyes (fun j hj => h3 j (by omega))))
  | succ d ih =>
    intro i n h1 h2 h3
    obtain ⟨n, rfl⟩ : ∃ m, n = m + 1 := ⟨n - 1, by omega⟩
    have f1 := fo_lt (hN (64 * p + i))
    have f2 := fo_lt (hD i (by omega))
    have b1 := hN (64 * p + i)
    have b2 := hD i (by omega)
    refine br_f (nI_ge (by omega) (by omega)) (br_f (by decide) ⟨pk_in (64 * p + i) 32768 (by omega) (ix_b p i), y_fold (ar_rd (64 * p + i) (ix_b p i)) (by omega) ⟨pk_in (64 * s + k + i) 256 (by omega) (ix_c s k i), y_fold (ar_rd (64 * s + k + i) (ix_c s k i)) (by omega) (pk_eq (fo_ (PN (64 * p + i))) (fo_ (D (64 * s + k + i))) (fun e => nm_r (nI_1 i) ?_) (fun e => nm_r (nI_1 i) ?_))⟩⟩)
    · refine ih (i + 1) n (by omega) (by omega) (fun j hj => ?_)
      by_cases z : j = i
      · rw [z]; exact e
      · exact h3 j (by omega)
    · obtain ⟨n, rfl⟩ : ∃ m, n = m + 1 := ⟨n - 1, by omega⟩
      have K : wY_findPlace_104 post J (nI s) (nI k) (nI M) (nI p) 0 yca yli ytt ypf ybs ybi yis ypr yic yne yie yde (ar_I D) yss ybu yst yse yps (ar_I PN) yin yfa yfo yfs 32768 := br_t rfl (nm_r (nI_1 p) (hno i (by omega) e))
      exact br_c (fun _ => K) (fun _ => br_t rfl K)
theorem y_fpl {post : Int32 → Prop} {s k M : Nat} (hM : M ≤ 64) (hM1 : 1 ≤ M) (hk : 64 * s + k + M ≤ 256) (hN : ∀ j, PN j < 256) (hD : ∀ i, i < M → D (64 * s + k + i) < 256) (hS : ∀ p, p < 512 → PS p ≤ 64)
    (hf : ∀ p, 12 ≤ p → p < 512 → my_ D PS PN (64 * s + k) M p → (∀ q, 12 ≤ q → q < p → ¬ my_ D PS PN (64 * s + k) M q) → post (nI p))
    (hn : (∀ q, 12 ≤ q → q < 512 → ¬ my_ D PS PN (64 * s + k) M q) → post (-1)) :
    ∀ d p n, p + d = 512 → 12 ≤ p → d < n → (∀ q, 12 ≤ q → q < p → ¬ my_ D PS PN (64 * s + k) M q) → wY_findPlace_13 post (nI s) (nI k) (nI M) yca yli ytt ypf ybs ybi yis ypr yic yne yie yde (ar_I D) yss ybu yst yse (ar_I PS) (ar_I PN) yin yfa yfo yfs 32768 n (nI p) := by
  intro d
  induction d with
  | zero =>
    intro p n h1 h2 h3 h4
    obtain ⟨n, rfl⟩ : ∃ m, n = m + 1 := ⟨n - 1, by omega⟩
    exact br_t (nI_le (a := 512) (by omega) (by omega)) (hn (fun q h5 h6 => h4 q h5 (by omega)))
  | succ d ih =>
    intro p n h1 h2 h3 h4
    obtain ⟨n, rfl⟩ : ∃ m, n = m + 1 := ⟨n - 1, by omega⟩
    have hSp := hS p (by omega)
    have nx : ¬ my_ D PS PN (64 * s + k) M p → wY_findPlace_13 post (nI s) (nI k) (nI M) yca yli ytt ypf ybs ybi yis ypr yic yne yie yde (ar_I D) yss ybu yst yse (ar_I PS) (ar_I PN) yin yfa yfo yfs 32768 n (nI (p + 1)) := fun hm => ih (p + 1) n (by omega) (by omega) (by omega) (fun q h5 h6 => by
      by_cases z : q = p
      · rw [z]; exact hm
      · exact h4 q h5 (by omega))
    refine br_f (nI_ge (b := 512) (by omega) (by decide)) ⟨vp_in_nI (by omega) (by decide), ?_⟩
    rw [ar_rd p]
    refine pk_eq (PS p) M (fun e => ⟨M + 1, ?_⟩) (fun e => ⟨1, br_f (nI_ge (a := 0) (by omega) (by omega)) (br_t rfl (br_t rfl (nm_r (nI_1 p) (nx (fun hm => e hm.1)))))⟩)
    exact y_42 (by omega) hM hk hN hD (fun hall => hf p h2 (by omega) ⟨e, hall⟩ h4) (fun i h5 h6 => nx (fun hm => h6 (hm.2 i h5))) M 0 (M + 1) (by omega) (by omega) (fun j hj => absurd hj (Nat.not_lt_zero j))
/-! both searches, one outcome -/
theorem fp_lock {E s k kn : Nat} (hl : pl_ B PS PN E) (hE : E ≤ 511) (hB : ∀ j, B j < 256) (hA : ∀ j, A j < 256) (hN : ∀ j, PN j < 256) (hS : ∀ p, p < 512 → PS p ≤ 64)
    (hs : s < 4) (hz : sz s ≤ 64) (hkz : k < sz s) (hw : wn_ A (64 * s + k) (64 * s + sz s)) (hAD : ∀ j, j < sz s → D (64 * s + j) = A (64 * s + j)) (hkn : kn ≤ 256)
    (hP : ∀ i, i < kn → 12 ≤ P i ∧ P i < E ∧ PS (P i) ≠ 0) (hm : ∀ i j, i < j → j < kn → P i < P j) (hall : ∀ p, p < E → PS p ≠ 0 → ∃ i, i < kn ∧ P i = p) (hbig : ∀ p, E ≤ p → p < 512 → PS p ≠ sz s - k) :
    (∃ t, 12 ≤ t ∧ t < E ∧ PS t ≠ 0 ∧ PS t = sz s - k ∧ (∀ i, i < sz s - k → fo_ (PN (64 * t + i)) = fo_ (A (64 * s + k + i))) ∧ (∀ q : Int32, q = nI (64 * s + k) → ∀ post : Int32 → Prop, post (nI t) → wpX_findPlace post (xca, xli, xtt, xpf, xbs, xbi, xwe, xda, xpc, xis, xpr, xic, xrp, xne, ar_I A, xss, ar_I B, xst, xse, ar_I P, xin, xs, xty, xcl, xtl, xds, xdl, xva, xnm, xns, xna, xnp) q (nI kn)) ∧ (∀ post : Int32 → Prop, post (nI t) → wpY_findPlace post (yca, yli, ytt, ypf, ybs, ybi, yis, ypr, yic, yne, yie, yde, ar_I D, ar_I sz, ybu, yst, yse, ar_I PS, ar_I PN, yin, yfa, yfo, yfs, 32768) (nI s) (nI k)))
    ∨ ((∀ q : Int32, q = nI (64 * s + k) → ∀ post : Int32 → Prop, post (-1) → wpX_findPlace post (xca, xli, xtt, xpf, xbs, xbi, xwe, xda, xpc, xis, xpr, xic, xrp, xne, ar_I A, xss, ar_I B, xst, xse, ar_I P, xin, xs, xty, xcl, xtl, xds, xdl, xva, xnm, xns, xna, xnp) q (nI kn)) ∧ (∀ post : Int32 → Prop, post (-1) → wpY_findPlace post (yca, yli, ytt, ypf, ybs, ybi, yis, ypr, yic, yne, yie, yde, ar_I D, ar_I sz, ybu, yst, yse, ar_I PS, ar_I PN, yin, yfa, yfo, yfs, 32768) (nI s) (nI k))) := by
  have eM : 64 * s + sz s - (64 * s + k) = sz s - k := by omega
  have hD : ∀ i, i < sz s - k → D (64 * s + k + i) < 256 := fun i hi => by
    rw [show 64 * s + k + i = 64 * s + (k + i) by omega, hAD (k + i) (by omega)]
    exact hA _
  -- the two matches are one
  have e1 : ∀ p, mt_ A (64 * s + k) (64 * s + sz s) (PS p) (fun j => PN (64 * p + j)) ↔ my_ D PS PN (64 * s + k) (sz s - k) p := by
    intro p
    unfold mt_ my_
    rw [eM]
    constructor
    · rintro ⟨a, c⟩
      refine ⟨a, fun i hi => ?_⟩
      rw [c i (by omega), show 64 * s + k + i = 64 * s + (k + i) by omega, hAD (k + i) (by omega)]
    · rintro ⟨a, c⟩
      refine ⟨a, fun i hi => ?_⟩
      rw [c i (by omega), show 64 * s + k + i = 64 * s + (k + i) by omega, hAD (k + i) (by omega)]
  have ey : ∀ p, 12 ≤ p → p < 512 → my_ D PS PN (64 * s + k) (sz s - k) p → ∃ i, i < kn ∧ P i = p := by
    intro p h1 h2 h3
    by_cases z : p < E
    · exact hall p z (by rw [h3.1]; omega)
    · exact absurd h3.1 (hbig p (by omega) h2)
  have eX : ∀ q : Int32, q = nI (64 * s + k) → ∀ post : Int32 → Prop, ((∀ i, i < kn → my_ D PS PN (64 * s + k) (sz s - k) (P i) → (∀ j, j < i → ¬ my_ D PS PN (64 * s + k) (sz s - k) (P j)) → post (nI (P i)))) → ((∀ j, j < kn → ¬ my_ D PS PN (64 * s + k) (sz s - k) (P j)) → post (-1)) → wpX_findPlace post (xca, xli, xtt, xpf, xbs, xbi, xwe, xda, xpc, xis, xpr, xic, xrp, xne, ar_I A, xss, ar_I B, xst, xse, ar_I P, xin, xs, xty, xcl, xtl, xds, xdl, xva, xnm, xns, xna, xnp) q (nI kn) := by
    intro q hq post hf hn
    subst hq
    exact ⟨kn + 1, x_fpl hl hE hB hA (by omega) (by omega) hw hkn (fun i hi => (hP i hi).2) (fun i hi h5 h6 => hf i hi ((e1 _).mp h5) (fun j hj h7 => h6 j hj ((e1 _).mpr h7))) (fun h6 => hn (fun j hj h7 => h6 j hj ((e1 _).mpr h7))) kn 0 (kn + 1) (by omega) (by omega) (fun j hj => absurd hj (Nat.not_lt_zero j))⟩
  have eY : ∀ post : Int32 → Prop, (∀ p, 12 ≤ p → p < 512 → my_ D PS PN (64 * s + k) (sz s - k) p → (∀ q, 12 ≤ q → q < p → ¬ my_ D PS PN (64 * s + k) (sz s - k) q) → post (nI p)) → ((∀ q, 12 ≤ q → q < 512 → ¬ my_ D PS PN (64 * s + k) (sz s - k) q) → post (-1)) → wpY_findPlace post (yca, yli, ytt, ypf, ybs, ybi, yis, ypr, yic, yne, yie, yde, ar_I D, ar_I sz, ybu, yst, yse, ar_I PS, ar_I PN, yin, yfa, yfo, yfs, 32768) (nI s) (nI k) := by
    intro post hf hn
    refine And.intro (vp_in_nI hs (by decide)) (nm_r (e' := nI (sz s - k)) (by rw [ar_rd s]; exact pk_sub (by omega)) ⟨501, ?_⟩)
    exact y_fpl (by omega) (by omega) (by omega) hN hD hS hf hn 500 12 501 rfl (by omega) (by omega) (fun q h1 h2 => by omega)
  by_cases hx : ∃ i, i < kn ∧ my_ D PS PN (64 * s + k) (sz s - k) (P i)
  · obtain ⟨i, ⟨h1, h2⟩, h3⟩ := pk_least _ hx
    have hno : ∀ j, j < i → ¬ my_ D PS PN (64 * s + k) (sz s - k) (P j) := fun j hj h4 => h3 j hj ⟨by omega, h4⟩
    refine Or.inl ⟨P i, (hP i h1).1, (hP i h1).2.1, (hP i h1).2.2, h2.1, fun j hj => ?_, fun q hq post hp => eX q hq post (fun i' h4 h5 h6 => ?_) (fun h4 => absurd h2 (h4 i h1)), fun post hp => eY post (fun p h4 h5 h6 h7 => ?_) (fun h4 => absurd h2 (h4 _ (hP i h1).1 (by have := (hP i h1).2.1; omega)))⟩
    · rw [h2.2 j hj, show 64 * s + k + j = 64 * s + (k + j) by omega, hAD (k + j) (by omega)]
    · rcases Nat.lt_trichotomy i' i with z | z | z
      · exact absurd h5 (hno i' z)
      · rw [z]; exact hp
      · exact absurd h2 (h6 i z)
    · obtain ⟨i', h8, h9⟩ := ey p h4 h5 h6
      rcases Nat.lt_trichotomy i' i with z | z | z
      · rw [← h9] at h6
        exact absurd h6 (hno i' z)
      · rw [← h9, z]; exact hp
      · have := hm i i' z h8
        exact absurd h2 (h7 (P i) (hP i h1).1 (by omega))
  · refine Or.inr ⟨fun q hq post hp => eX q hq post (fun i h1 h2 _ => absurd ⟨i, h1, h2⟩ hx) (fun _ => hp), fun post hp => eY post (fun p h1 h2 h3 _ => ?_) (fun _ => hp)⟩
    obtain ⟨i, h4, h5⟩ := ey p h1 h2 h3
    rw [← h5] at h3
    exact absurd ⟨i, h4, h3⟩ hx
end FIND
end
section
/-! writing a name, both sides at once -/
section WRITE
variable {xca xli xtt xpf xbs xbi xwe xda xpc xis xpr xic xrp xne : Int32} {xsn xss xbu xst xse xpl xin xs xty xcl : Nat → Int32} {xtl : Nat → Int64} {xds xdl : Nat → Int32} {xva : Nat → Int64} {xnm xns xna xnp : Nat → Int32}
variable {yca yli ytt ypf ybs ybi yis ypr yic yne yie yde : Int32} {ysn yss ybu yst yse yps ypn yin : Nat → Int32} {yfa : Nat → Int64} {yfo yfs : Nat → Int32} {ynn : Nat}
variable {A D sz : Nat → Nat}
def li_ (w0 kn w M : Nat) (B PS PN P : Nat → Nat) (pc : Nat) : Prop :=
  pl_ B PS PN w0 ∧ 12 ≤ w0 ∧ w0 ≤ w ∧ (∀ j, B j < 256) ∧ (∀ j, PN j < 256) ∧ (∀ p, p < 512 → PS p ≤ 64) ∧ pp_ P pc PS w ∧ kn ≤ pc ∧ (∀ i, i < kn → P i < w0) ∧ (∀ i, kn ≤ i → i < pc → w0 ≤ P i) ∧ (∀ p, w0 ≤ p → p < w → PS p ≠ 0 → M < PS p)
def wq_ (w M : Nat) (F : Nat → Nat) (B C PS PN P : Nat → Nat) (pc w1 : Nat) (B1 C1 PS1 PN1 P1 : Nat → Nat) (pc1 : Nat) : Prop :=
  w < w1 ∧ w1 ≤ w + M ∧ fr_ w pc B C PS PN P B1 C1 PS1 PN1 P1 pc1 ∧ (∀ j, B1 j < 256) ∧ (∀ j, PN1 j < 256) ∧ (w1 ≤ 255 → ∀ j, w ≤ j → j < w1 → C1 j = B1 j) ∧
  (∀ p, w ≤ p → p < w1 → PS1 p ≠ 0 → PS1 p ≤ 64 ∧ lc_ B1 PS1 PN1 w1 p) ∧ pp_ P1 pc1 PS1 w1 ∧ hd_ B1 PS1 PN1 w1 w M F
/-! the pure steps -/
theorem wq_0 {w0 kn w : Nat} {F B C PS PN P : Nat → Nat} {pc : Nat} (h : li_ w0 kn w 1 B PS PN P pc) (hw : w + 1 ≤ 511) (hF : F 0 = 0) : wq_ w 1 F B C PS PN P pc (w + 1) (ar_u B w 0) (ar_u C w 0) PS PN P pc := by
  obtain ⟨h1, h2, h3, h4, h5, h6, h7, h8, h9, h10, h11⟩ := h
  refine ⟨by omega, Nat.le_refl _, fr_u (Nat.le_refl _) (Nat.le_refl _), by_u h4 (by decide), h5, fun _ j k1 k2 => ?_, fun p k1 k2 k3 => absurd (pp_z h7 k1 (by omega)) k3, pp_mo h7 (by omega), Or.inl ⟨by omega, ar_us, rfl, by rw [hF]; rfl⟩⟩
  have e : j = w := by omega
  rw [e, ar_us, ar_us]
theorem wq_p {w0 kn w M t : Nat} {F B C PS PN P : Nat → Nat} {pc : Nat} (h : li_ w0 kn w M B PS PN P pc) (hw : w + 2 ≤ 511) (hM : 2 ≤ M) (t1 : 12 ≤ t) (t2 : t < w0) (t3 : PS t ≠ 0) (t4 : PS t = M) (t5 : ∀ i, i < M → fo_ (PN (64 * t + i)) = fo_ (F i)) :
    wq_ w M F B C PS PN P pc (w + 2) (ar_u (ar_u B w (192 + t / 256)) (w + 1) (t % 256)) (ar_u (ar_u C w 192) (w + 1) t) PS PN P pc := by
  obtain ⟨h1, h2, h3, h4, h5, h6, h7, h8, h9, h10, h11⟩ := h
  have e0 : ar_u (ar_u B w (192 + t / 256)) (w + 1) (t % 256) w = 192 + t / 256 := by rw [ar_un (by omega), ar_us]
  refine ⟨by omega, by omega, fr_tr (Nat.le_refl _) (fr_u (Nat.le_refl _) (Nat.le_refl _)) (fr_u (by omega) (by omega)), by_u (by_u h4 (by omega)) (by omega), h5, fun hh j k1 k2 => ?_, fun p k1 k2 k3 => absurd (pp_z h7 k1 (by omega)) k3, pp_mo h7 (by omega), Or.inr (Or.inl ⟨by omega, by rw [e0]; omega, t, by rw [e0, ar_us]; omega, t1, by omega, t3, t4, fun i hi => (t5 i hi).symm⟩)⟩
  by_cases z : j = w + 1
  · rw [z, ar_us, ar_us]; omega
  · have e : j = w := by omega
    rw [ar_un z, ar_un z, e, ar_us, ar_us]; omega
theorem li_s {w0 kn w M L : Nat} {f g B PS PN P : Nat → Nat} {pc : Nat} (h : li_ w0 kn w M B PS PN P pc) (hw : w + M ≤ 511) (hM : M ≤ 64) (hL : 1 ≤ L) (hLM : 1 + L < M) (hf : ∀ i, i < L + 1 → f i < 256) (hg : ∀ i, i < M → g i < 256) :
    li_ w0 kn (w + 1 + L) (M - (1 + L)) (ar_bw B w f (L + 1)) (ar_u PS w M) (ar_bw PN (64 * w) g M) (ar_u P pc w) (pc + 1) := by
  obtain ⟨h1, h2, h3, h4, h5, h6, h7, h8, h9, h10, h11⟩ := h
  refine ⟨pl_fr (fun j _ hj => ar_bo (by omega)) (fun p hp => ar_un (by omega)) (fun j hj => ar_bo (by omega)) h1, h2, by omega, by_w h4 hf, by_w h5 hg, fun p hp => ?_, ⟨fun i hi => ?_, fun i j hi hj => ?_, fun p hp hz => ?_⟩, by omega, fun i hi => ?_, fun i k1 k2 => ?_, fun p k1 k2 k3 => ?_⟩
  · by_cases z : p = w
    · rw [z, ar_us]; exact hM
    · rw [ar_un z]; exact h6 p hp
  · by_cases z : i = pc
    · rw [z, ar_us, ar_us]; omega
    · obtain ⟨k1, k2, k3⟩ := h7.1 i (by omega)
      rw [ar_un z, ar_un (by omega)]
      exact ⟨k1, by omega, k3⟩
  · by_cases z : j = pc
    · rw [z, ar_us, ar_un (by omega)]
      exact (h7.1 i (by omega)).2.1
    · rw [ar_un z, ar_un (by omega)]
      exact h7.2.1 i j hi (by omega)
  · by_cases z : p = w
    · exact ⟨pc, by omega, by rw [ar_us, z]⟩
    · rw [ar_un z] at hz
      obtain ⟨i, k1, k2⟩ := h7.2.2 p hp hz
      exact ⟨i, by omega, by rw [ar_un (by omega)]; exact k2⟩
  · rw [ar_un (by omega)]
    exact h9 i hi
  · by_cases z : i = pc
    · rw [z, ar_us]; exact h3
    · rw [ar_un z]
      exact h10 i k1 (by omega)
  · by_cases z : p = w
    · rw [z, ar_us]; omega
    · rw [ar_un z] at k3 ⊢
      by_cases y : p < w
      · have := h11 p k1 y k3
        omega
      · exact absurd (pp_z h7 (by omega) (by omega)) k3
theorem wq_s {w0 kn w M L : Nat} {F f g B C PS PN P : Nat → Nat} {pc w1 : Nat} {B1 C1 PS1 PN1 P1 : Nat → Nat} {pc1 : Nat} (h : li_ w0 kn w M B PS PN P pc) (hw : w + M ≤ 511) (hM : M ≤ 64) (hL : 1 ≤ L) (hL2 : L < 64) (hLM : 1 + L < M)
    (ef : ∀ i, i < M → f i = F i) (eg : ∀ i, i < M → g i = F i) (hF0 : F 0 = L)
    (hq : wq_ (w + 1 + L) (M - (1 + L)) (fun i => F (1 + L + i)) (ar_bw B w f (L + 1)) (ar_bw C w g (L + 1)) (ar_u PS w M) (ar_bw PN (64 * w) g M) (ar_u P pc w) (pc + 1) w1 B1 C1 PS1 PN1 P1 pc1) :
    wq_ w M F B C PS PN P pc w1 B1 C1 PS1 PN1 P1 pc1 := by
  obtain ⟨h1, h2, h3, h4, h5, h6, h7, h8, h9, h10, h11⟩ := h
  obtain ⟨q1, q2, q3, q4, q5, q6, q7, q8, q9⟩ := hq
  have f1 : fr_ w pc B C PS PN P (ar_bw B w f (L + 1)) (ar_bw C w g (L + 1)) (ar_u PS w M) (ar_bw PN (64 * w) g M) (ar_u P pc w) (pc + 1) :=
    ⟨fun j hj => ar_bo (by omega), fun j hj => ar_bo (by omega), fun j hj => ar_un (by omega), fun j hj => ar_bo (by omega), fun i hi => ar_un (by omega), by omega⟩
  have b1 : ∀ i, i < L + 1 → B1 (w + i) = F i := fun i hi => by
    rw [q3.1 _ (by omega), ar_bi (by omega) (by omega), show w + i - w = i by omega, ef i (by omega)]
  have c1 : ∀ i, i < L + 1 → C1 (w + i) = F i := fun i hi => by
    rw [q3.2.1 _ (by omega), ar_bi (by omega) (by omega), show w + i - w = i by omega, eg i (by omega)]
  have n1 : ∀ i, i < M → PN1 (64 * w + i) = F i := fun i hi => by
    rw [q3.2.2.2.1 _ (by omega), ar_bi (by omega) (by omega), show 64 * w + i - 64 * w = i by omega, eg i hi]
  have s1 : PS1 w = M := by rw [q3.2.2.1 _ (by omega), ar_us]
  have bw : B1 w = L := by have := b1 0 (by omega); rw [Nat.add_zero, hF0] at this; exact this
  refine ⟨by omega, by omega, fr_tr (by omega) f1 q3, q4, q5, fun hh j k1 k2 => ?_, fun p k1 k2 k3 => ?_, q8, Or.inr (Or.inr ⟨by omega, by omega, s1, fun i hi => by rw [n1 i hi]⟩)⟩
  · by_cases z : j < w + 1 + L
    · have e1 := b1 (j - w) (by omega)
      have e2 := c1 (j - w) (by omega)
      rw [show w + (j - w) = j by omega] at e1 e2
      rw [e1, e2]
    · exact q6 hh j (by omega) k2
  · by_cases z : p = w
    · subst z
      refine ⟨by omega, ?_⟩
      unfold lc_
      rw [bw, s1]
      refine ⟨hL, hL2, hLM, ?_, fun i k4 k5 => ?_, ?_⟩
      · have := n1 0 (by omega)
        rw [Nat.add_zero, hF0] at this
        exact this
      · rw [n1 i (by omega), b1 i (by omega)]
      · exact hd_fr (by omega) (fun _ _ _ => rfl) (fun _ _ => rfl) (fun _ _ => rfl) (fun i hi => by rw [n1 _ (by omega)]) q9
    · by_cases y : p < w + 1 + L
      · rw [q3.2.2.1 _ y, ar_un z] at k3
        exact absurd (pp_z h7 (by omega) (by omega)) k3
      · exact q7 p (by omega) k2 k3
/-! X's and Y's inner loops -/
theorem x_addp {post : SX → Prop} {P : Nat → Nat} {pc w : Nat} (hc : pc < 256) (h : post (xca, xli, xtt, xpf, xbs, xbi, xwe, xda, nI (pc + 1), xis, xpr, xic, xrp, xne, xsn, xss, xbu, xst, xse, ar_I (ar_u P pc w), xin, xs, xty, xcl, xtl, xds, xdl, xva, xnm, xns, xna, xnp)) : wpX_addPlace post (xca, xli, xtt, xpf, xbs, xbi, xwe, xda, nI pc, xis, xpr, xic, xrp, xne, xsn, xss, xbu, xst, xse, ar_I P, xin, xs, xty, xcl, xtl, xds, xdl, xva, xnm, xns, xna, xnp) (nI w) :=
  br_f (nI_ge (b := 256) hc (by decide)) ⟨vp_in_nI hc (by decide), nm_r (ar_st pc w) (nm_r (nI_1 pc) h)⟩
theorem x_93 {post : SX → Prop} {J : Int32 → Int32 → Int32 → Int32 → Int32 → Int32 → Int32 → Int32 → Int32 → Int32 → Int32 → Int32 → Int32 → Int32 → Int32 → (Nat → Int32) → (Nat → Int32) → (Nat → Int32) → (Nat → Int32) → (Nat → Int32) → (Nat → Int32) → (Nat → Int32) → (Nat → Int32) → (Nat → Int32) → (Nat → Int32) → (Nat → Int64) → (Nat → Int32) → (Nat → Int32) → (Nat → Int64) → (Nat → Int32) → (Nat → Int32) → (Nat → Int32) → (Nat → Int32) → Prop}
    {x3 : Int32} {B : Nat → Nat} {s k w L : Nat} (hk : 64 * s + k + L < 256) (hw : w + 1 + L ≤ 512) (hL : L < 64) (hJ : J (nI (k + 1 + L)) xca xli xtt xpf xbs xbi (nI (w + 1 + L)) xda xpc xis xpr xic xrp xne (ar_I A) xss (ar_I (ar_bw B w (fun i => A (64 * s + k + i)) (L + 1))) xst xse xpl xin xs xty xcl xtl xds xdl xva xnm xns xna xnp) :
    ∀ d i n, i + d = L + 1 → d < n → wX_writeName_93 post J (nI (64 * s)) x3 (nI k) (nI L) n (nI i) xca xli xtt xpf xbs xbi (nI (w + i)) xda xpc xis xpr xic xrp xne (ar_I A) xss (ar_I (ar_bw B w (fun i => A (64 * s + k + i)) i)) xst xse xpl xin xs xty xcl xtl xds xdl xva xnm xns xna xnp := by
  intro d
  induction d with
  | zero =>
    intro i n h1 h2
    obtain ⟨n, rfl⟩ : ∃ m, n = m + 1 := ⟨n - 1, by omega⟩
    have e : i = L + 1 := by omega
    subst e
    rw [show w + (L + 1) = w + 1 + L by omega]
    exact br_t (nI_lt (by omega) (by omega)) (nm_r (ix_p k L) hJ)
  | succ d ih =>
    intro i n h1 h2
    obtain ⟨n, rfl⟩ : ∃ m, n = m + 1 := ⟨n - 1, by omega⟩
    have e1 : nI (64 * s) + nI k + nI i = nI (64 * s + k + i) := by rw [nI_add, nI_add]
    have K := ih (i + 1) n (by omega) (by omega)
    rw [← ar_bS] at K
    exact br_f (nI_nlt (by omega) (by omega)) ⟨pk_in (64 * s + k + i) 256 (by omega) e1, x_put (ar_rd (64 * s + k + i) e1) (by omega) (nm_r (nI_1 i) K)⟩
theorem y_147 {post : Int32 → SY → Prop} {J : Int32 → Int32 → Int32 → (Nat → Int32) → (Nat → Int32) → (Nat → Int32) → (Nat → Int32) → (Nat → Int32) → (Nat → Int32) → (Nat → Int32) → (Nat → Int32) → (Nat → Int64) → (Nat → Int32) → (Nat → Int32) → Prop}
    {C : Nat → Nat} {s k w x L : Nat} (hk : 64 * s + k + L < 256) (hw : w + 1 + L ≤ 512) (hL : L < 64) (hJ : J (nI (w + 1 + L)) (nI (k + 1 + L)) (nI (x + 1)) (ar_I D) yss (ar_I (ar_bw C w (fun i => D (64 * s + k + i)) (L + 1))) yst yse yps ypn yin yfa yfo yfs) :
    ∀ d i n, i + d = L + 1 → d < n → wY_writeName_147 post J (nI s) (nI w) (nI k) (nI x) (nI L) yca yli ytt ypf ybs ybi yis ypr yic yne yie yde ynn n (nI i) (ar_I D) yss (ar_I (ar_bw C w (fun i => D (64 * s + k + i)) i)) yst yse yps ypn yin yfa yfo yfs := by
  intro d
  induction d with
  | zero =>
    intro i n h1 h2
    obtain ⟨n, rfl⟩ : ∃ m, n = m + 1 := ⟨n - 1, by omega⟩
    have e : i = L + 1 := by omega
    subst e
    exact br_t (nI_lt (by omega) (by omega)) (nm_r (ix_p w L) (nm_r (ix_p k L) (nm_r (nI_1 x) hJ)))
  | succ d ih =>
    intro i n h1 h2
    obtain ⟨n, rfl⟩ : ∃ m, n = m + 1 := ⟨n - 1, by omega⟩
    have K := ih (i + 1) n (by omega) (by omega)
    rw [← ar_bS] at K
    exact br_f (nI_nlt (by omega) (by omega)) ⟨pk_in (64 * s + k + i) 256 (by omega) (ix_c s k i), pk_in (w + i) 512 (by omega) (nI_add w i), nm_r (ar_st (w + i) (D (64 * s + k + i)) (nI_add w i) (ar_rd (64 * s + k + i) (ix_c s k i))) (nm_r (nI_1 i) K)⟩
theorem y_86 {post : Int32 → SY → Prop} {J : Int32 → Int32 → Int32 → (Nat → Int32) → (Nat → Int32) → (Nat → Int32) → (Nat → Int32) → (Nat → Int32) → (Nat → Int32) → (Nat → Int32) → (Nat → Int32) → (Nat → Int64) → (Nat → Int32) → (Nat → Int32) → Prop}
    {C PS PN : Nat → Nat} {s k w x L M : Nat} (hL : D (64 * s + k) = L) (hM : M ≤ 64) (hLM : L < M) (hk : 64 * s + k + M ≤ 256) (hw : w + 1 + L ≤ 512) (hw5 : w < 512) (hPS : PS w = M) (hJ : J (nI (w + 1 + L)) (nI (k + 1 + L)) (nI (x + 1)) (ar_I D) yss (ar_I (ar_bw C w (fun i => D (64 * s + k + i)) (L + 1))) yst yse (ar_I PS) (ar_I (ar_bw PN (64 * w) (fun i => D (64 * s + k + i)) M)) yin yfa yfo yfs) :
    ∀ d i n, i + d = M → d < n → wY_writeName_86 post J (nI s) (nI w) (nI k) (nI x) yca yli ytt ypf ybs ybi yis ypr yic yne yie yde 32768 n (nI i) (ar_I D) yss (ar_I C) yst yse (ar_I PS) (ar_I (ar_bw PN (64 * w) (fun i => D (64 * s + k + i)) i)) yin yfa yfo yfs := by
  intro d
  induction d with
  | zero =>
    intro i n h1 h2
    obtain ⟨n, rfl⟩ : ∃ m, n = m + 1 := ⟨n - 1, by omega⟩
    have e : i = M := by omega
    subst e
    have K := y_147 (post := post) (yca := yca) (yli := yli) (ytt := ytt) (ypf := ypf) (ybs := ybs) (ybi := ybi) (yis := yis) (ypr := ypr) (yic := yic) (yne := yne) (yie := yie) (yde := yde) (ynn := 32768) (by omega) hw (by omega) hJ (L + 1) 0 (L + 2) (by omega) (by omega)
    rw [ar_b0] at K
    exact And.intro (vp_in_nI hw5 (by decide)) (br_t (by rw [ar_rd w, hPS]; exact nI_le (Nat.le_refl _) (by omega)) ⟨pk_in (64 * s + k) 256 (by omega) (ix_b s k), nm_r (e' := nI L) (by rw [ar_rd (64 * s + k) (ix_b s k), hL]) ⟨L + 2, K⟩⟩)
  | succ d ih =>
    intro i n h1 h2
    obtain ⟨n, rfl⟩ : ∃ m, n = m + 1 := ⟨n - 1, by omega⟩
    have K := ih (i + 1) n (by omega) (by omega)
    rw [← ar_bS] at K
    exact And.intro (vp_in_nI hw5 (by decide)) (br_f (by rw [ar_rd w, hPS]; exact nI_ge (by omega) (by omega)) ⟨pk_in (64 * s + k + i) 256 (by omega) (ix_c s k i), pk_in (64 * w + i) 32768 (by omega) (ix_b w i), nm_r (ar_st (64 * w + i) (D (64 * s + k + i)) (ix_b w i) (ar_rd (64 * s + k + i) (ix_c s k i))) (nm_r (nI_1 i) K)⟩)
theorem sh_8 {t : Nat} (h : t < 512) : 192 + ((nI t).toUInt32 >>> ((8 : Int32).toUInt32 &&& Int32.toUInt32 31)).toInt32 = nI (192 + t / 256) := by
  rw [pk_ushrN (by omega) 8 8 (by decide)]
  exact nI_add 192 _
theorem sh_a {t : Nat} (h : t < 512) : nI t &&& 255 = nI (t % 256) := pk_andN (by omega) 8 (by decide)
theorem wn_lock {w0 kn s : Nat} (hs : s < 4) (hz : sz s ≤ 64) (hA : ∀ j, A j < 256) (hAD : ∀ j, j < sz s → D (64 * s + j) = A (64 * s + j)) :
    ∀ N k w pc (B C PS PN P : Nat → Nat), sz s - k ≤ N → wn_ A (64 * s + k) (64 * s + sz s) → w + (sz s - k) ≤ 511 → li_ w0 kn w (sz s - k) B PS PN P pc →
    ∃ (w1 : Nat) (B1 C1 PS1 PN1 P1 : Nat → Nat) (pc1 : Nat), wq_ w (sz s - k) (fun i => A (64 * s + k + i)) B C PS PN P pc w1 B1 C1 PS1 PN1 P1 pc1 ∧
      (∀ n, sz s - k < n → ∀ post : SX → Prop, post (xca, xli, xtt, xpf, xbs, xbi, nI w1, xda, nI pc1, xis, xpr, xic, xrp, xne, ar_I A, xss, ar_I B1, xst, xse, ar_I P1, xin, xs, xty, xcl, xtl, xds, xdl, xva, xnm, xns, xna, xnp) → wX_writeName_13 post (nI (64 * s)) (nI kn) n (nI k) xca xli xtt xpf xbs xbi (nI w) xda (nI pc) xis xpr xic xrp xne (ar_I A) xss (ar_I B) xst xse (ar_I P) xin xs xty xcl xtl xds xdl xva xnm xns xna xnp) ∧
      (∀ n x, sz s - k < n → x + (sz s - k) ≤ 64 → ∀ post : Int32 → SY → Prop, post (nI w1) (yca, yli, ytt, ypf, ybs, ybi, yis, ypr, yic, yne, yie, yde, ar_I D, ar_I sz, ar_I C1, yst, yse, ar_I PS1, ar_I PN1, yin, yfa, yfo, yfs, 32768) → wY_writeName_8 post (nI s) yca yli ytt ypf ybs ybi yis ypr yic yne yie yde 32768 n (nI w) (nI k) (nI x) (ar_I D) (ar_I sz) (ar_I C) yst yse (ar_I PS) (ar_I PN) yin yfa yfo yfs) := by
  intro N
  induction N with
  | zero =>
    intro k w pc B C PS PN P h1 h2
    have := wn_lt h2
    omega
  | succ N ih =>
    intro k w pc B C PS PN P h1 h2 h3 hl
    have hk := wn_lt h2
    have hDk : D (64 * s + k) = A (64 * s + k) := hAD k (by omega)
    have hAk := hA (64 * s + k)
    have hkx : ¬ (64 : Int32) ≤ nI k := nI_ge (b := 64) (by omega) (by decide)
    have inX : vp_in (nI (64 * s) + nI k) 256 := pk_in (64 * s + k) 256 (by omega) (nI_add _ _)
    have inY : vp_in (nI s * 64 + nI k) 256 := pk_in (64 * s + k) 256 (by omega) (ix_b s k)
    have rdY : ar_I D (nI s * 64 + nI k).toNatClampNeg = nI (A (64 * s + k)) := by rw [ar_rd (64 * s + k) (ix_b s k), hDk]
    rcases wn_c h2 with ⟨z, z1⟩ | ⟨L1, L2, L3, L4⟩
    · -- the closing 0
      have eM : sz s - k = 1 := by omega
      refine ⟨w + 1, ar_u B w 0, ar_u C w 0, PS, PN, P, pc, ?_, ?_, ?_⟩
      · rw [eM] at hl ⊢
        exact wq_0 hl (by omega) z
      · intro n hn post hp
        obtain ⟨n, rfl⟩ : ∃ m, n = m + 1 := ⟨n - 1, by omega⟩
        exact br_f hkx ⟨inX, nm_r (e' := 0) (by rw [ar_rd (64 * s + k) (nI_add _ _), z]; rfl) (br_t rfl (x_put (v := 0) rfl (by omega) hp))⟩
      · intro n x hn hx post hp
        obtain ⟨n, rfl⟩ : ∃ m, n = m + 1 := ⟨n - 1, by omega⟩
        exact br_f (nI_ge (b := 64) (by omega) (by decide)) ⟨inY, br_t (by rw [rdY, z]; rfl) (And.intro (vp_in_nI (by omega) (by decide)) (nm_r (ar_st w 0) (ek_v (P := fun r => post r (yca, yli, ytt, ypf, ybs, ybi, yis, ypr, yic, yne, yie, yde, ar_I D, ar_I sz, ar_I (ar_u C w 0), yst, yse, ar_I PS, ar_I PN, yin, yfa, yfo, yfs, 32768)) (nI_1 w) hp)))⟩
    · have hne : ¬ nI (A (64 * s + k)) = 0 := fun e => by
        have := (nI_i0 (by omega)).mp e
        omega
      have hl' := hl
      obtain ⟨l1, l2, l3, l4, l5, l6, l7, l8, l9, l10, l11⟩ := hl'
      have hpc := pp_c l7 (by omega)
      rcases fp_lock (xca := xca) (xli := xli) (xtt := xtt) (xpf := xpf) (xbs := xbs) (xbi := xbi) (xwe := nI w) (xda := xda) (xpc := nI pc) (xis := xis) (xpr := xpr) (xic := xic) (xrp := xrp) (xne := xne) (xss := xss) (xst := xst) (xse := xse) (xin := xin) (xs := xs) (xty := xty) (xcl := xcl) (xtl := xtl) (xds := xds) (xdl := xdl) (xva := xva) (xnm := xnm) (xns := xns) (xna := xna) (xnp := xnp)
          (yca := yca) (yli := yli) (ytt := ytt) (ypf := ypf) (ybs := ybs) (ybi := ybi) (yis := yis) (ypr := ypr) (yic := yic) (yne := yne) (yie := yie) (yde := yde) (ybu := ar_I C) (yst := yst) (yse := yse) (yin := yin) (yfa := yfa) (yfo := yfo) (yfs := yfs) (P := P)
          l1 (by omega) l4 hA l5 l6 hs hz (by omega) h2 hAD (by omega)
          (fun i hi => ⟨(l7.1 i (by omega)).1, l9 i hi, (l7.1 i (by omega)).2.2⟩) (fun i j hi hj => by have := l7.2.1 i j hi (by omega); omega)
          (fun p hp hn => by
            obtain ⟨i, i1, i2⟩ := l7.2.2 p (by omega) hn
            refine ⟨i, ?_, i2⟩
            by_cases y : i < kn
            · exact y
            · have := l10 i (by omega) i1
              omega)
          (fun p p1 p2 e => by
            by_cases y : p < w
            · have := l11 p p1 y (by omega)
              omega
            · have := pp_z l7 (by omega) p2
              omega) with ⟨t, t1, t2, t3, t4, t5, tX, tY⟩ | ⟨tX, tY⟩
      · -- a pointer
        refine ⟨w + 2, _, _, PS, PN, P, pc, wq_p hl (by omega) (by omega) t1 t2 t3 t4 t5, ?_, ?_⟩
        · intro n hn post hp
          obtain ⟨n, rfl⟩ : ∃ m, n = m + 1 := ⟨n - 1, by omega⟩
          exact br_f hkx ⟨inX, nm_r (ar_rd (64 * s + k) (nI_add _ _)) (br_f hne (tX _ (nI_add _ _) _ (br_f (nI_pos (by omega)) (x_put (sh_8 (by omega)) (by omega) (x_put (sh_a (by omega)) (by omega) hp)))))⟩
        · intro n x hn hx post hp
          obtain ⟨n, rfl⟩ : ∃ m, n = m + 1 := ⟨n - 1, by omega⟩
          refine br_f (nI_ge (b := 64) (by omega) (by decide)) ⟨inY, br_f (by rw [rdY]; exact hne) (tY _ (br_f (nI_n1 (by omega)) ⟨vp_in_nI (by omega) (by decide), nm_r (ar_st w 192) ⟨pk_in (w + 1) 512 (by omega) (nI_1 w), nm_r (ar_st (w + 1) t (nI_1 w)) ?_⟩⟩))⟩
          exact ek_v (P := fun r => post r (yca, yli, ytt, ypf, ybs, ybi, yis, ypr, yic, yne, yie, yde, ar_I D, ar_I sz, ar_I (ar_u (ar_u C w 192) (w + 1) t), yst, yse, ar_I PS, ar_I PN, yin, yfa, yfo, yfs, 32768)) (nI_add w 2) hp
      · -- a label, its place, and on
        have ef : ∀ i, i < sz s - k → D (64 * s + k + i) = A (64 * s + k + i) := fun i hi => by
          rw [show 64 * s + k + i = 64 * s + (k + i) by omega]
          exact hAD _ (by omega)
        have eM : sz s - (k + 1 + A (64 * s + k)) = sz s - k - (1 + A (64 * s + k)) := by omega
        have hl2 := li_s (f := fun i => A (64 * s + k + i)) (g := fun i => D (64 * s + k + i)) hl h3 (by omega) L1 (by omega) (fun i _ => hA _) (fun i hi => by rw [ef i hi]; exact hA _)
        rw [← eM] at hl2
        rw [show 64 * s + k + 1 + A (64 * s + k) = 64 * s + (k + 1 + A (64 * s + k)) by omega] at L4
        obtain ⟨w1, B1, C1, PS1, PN1, P1, pc1, hq, hX, hY⟩ := ih (k + 1 + A (64 * s + k)) (w + 1 + A (64 * s + k)) (pc + 1) _ (ar_bw C w (fun i => D (64 * s + k + i)) (A (64 * s + k) + 1)) _ _ _ (by omega) L4 (by omega) hl2
        refine ⟨w1, B1, C1, PS1, PN1, P1, pc1, ?_, ?_, ?_⟩
        · refine wq_s (f := fun i => A (64 * s + k + i)) (g := fun i => D (64 * s + k + i)) hl h3 (by omega) L1 L2 (by omega) (fun i _ => rfl) ef rfl ?_
          rw [eM] at hq
          have e9 : (fun i => A (64 * s + (k + 1 + A (64 * s + k)) + i)) = (fun i => A (64 * s + k + (1 + A (64 * s + k) + i))) := by
            funext i
            exact congrArg A (by omega)
          rw [e9] at hq
          exact hq
        · intro n hn post hp
          obtain ⟨n, rfl⟩ : ∃ m, n = m + 1 := ⟨n - 1, by omega⟩
          have K := x_93 (post := post) (x3 := nI kn) (xca := xca) (xli := xli) (xtt := xtt) (xpf := xpf) (xbs := xbs) (xbi := xbi) (xda := xda) (xpc := nI (pc + 1)) (xis := xis) (xpr := xpr) (xic := xic) (xrp := xrp) (xne := xne) (xss := xss) (xst := xst) (xse := xse) (xpl := ar_I (ar_u P pc w)) (xin := xin) (xs := xs) (xty := xty) (xcl := xcl) (xtl := xtl) (xds := xds) (xdl := xdl) (xva := xva) (xnm := xnm) (xns := xns) (xna := xna) (xnp := xnp)
            (by omega) (by omega) L2 (hX n (by omega) post hp) (A (64 * s + k) + 1) 0 (A (64 * s + k) + 2) (by omega) (by omega)
          rw [ar_b0, Nat.add_zero] at K
          exact br_f hkx ⟨inX, nm_r (ar_rd (64 * s + k) (nI_add _ _)) (br_f hne (tX _ (nI_add _ _) _ (br_t (by decide) (x_addp (by omega) ⟨_, K⟩))))⟩
        · intro n x hn hx post hp
          obtain ⟨n, rfl⟩ : ∃ m, n = m + 1 := ⟨n - 1, by omega⟩
          have K := y_86 (post := post) (PN := PN) (yca := yca) (yli := yli) (ytt := ytt) (ypf := ypf) (ybs := ybs) (ybi := ybi) (yis := yis) (ypr := ypr) (yic := yic) (yne := yne) (yie := yie) (yde := yde)
            hDk (by omega) (by omega) (by omega) (by omega) (by omega) ar_us (hY n (x + 1) (by omega) (by omega) post hp) (sz s - k) 0 (sz s - k + 1) (by omega) (by omega)
          rw [ar_b0] at K
          exact br_f (nI_ge (b := 64) (by omega) (by decide)) ⟨inY, br_f (by rw [rdY]; exact hne) (tY _ (br_t rfl ⟨vp_in_nI hs (by decide), vp_in_nI (by omega) (by decide), nm_r (ar_st w (sz s - k) rfl (by rw [ar_rd s]; exact pk_sub (by omega))) ⟨_, K⟩⟩))⟩
end WRITE
end
section
/-! slots; a name written into a working state -/
section WSX
variable {xca xli xtt xpf xbs xbi xwe xda xpc xis xpr xic xrp xne : Int32} {xsn xss xbu xst xse xpl xin xs xty xcl : Nat → Int32} {xtl : Nat → Int64} {xds xdl : Nat → Int32} {xva : Nat → Int64} {xnm xns xna xnp : Nat → Int32}
variable {yca yli ytt ypf ybs ybi yis ypr yic yne yie yde : Int32} {ysn yss ybu yst yse yps ypn yin : Nat → Int32} {yfa : Nat → Int64} {yfo yfs : Nat → Int32} {ynn : Nat}
variable {A D sz B C PS PN P : Nat → Nat}
def sl_ (A D sz : Nat → Nat) : Prop := (∀ j, A j < 256) ∧ ∀ s, s < 4 → 1 ≤ sz s ∧ sz s ≤ 64 ∧ (∀ j, j < sz s → D (64 * s + j) = A (64 * s + j)) ∧ wn_ A (64 * s) (64 * s + sz s)
theorem sl_up {A1 D1 : Nat → Nat} {s m : Nat} (h : sl_ A D sz) (hb : ∀ j, A1 j < 256) (hA : ∀ j, (j < 64 * s ∨ 64 * s + 64 ≤ j) → A1 j = A j) (hD : ∀ j, (j < 64 * s ∨ 64 * s + 64 ≤ j) → D1 j = D j) (hm : m ≤ 64) (hAD : ∀ j, j < m → D1 (64 * s + j) = A1 (64 * s + j)) (hw : wn_ A1 (64 * s) (64 * s + m)) : sl_ A1 D1 (ar_u sz s m) := by
  refine ⟨hb, fun r hr => ?_⟩
  by_cases z : r = s
  · subst z
    rw [ar_us]
    exact ⟨by have := wn_lt hw; omega, hm, hAD, hw⟩
  · rw [ar_un z]
    obtain ⟨h1, h2, h3, h4⟩ := h.2 r hr
    refine ⟨h1, h2, fun j hj => ?_, wn_cg h4 (fun j h5 h6 => hA j (by omega))⟩
    rw [hA _ (by omega), hD _ (by omega)]
    exact h3 j hj
theorem li_ws {G w pc M : Nat} (h : ws_ G w B C PS PN P pc) : li_ w pc w M B PS PN P pc := by
  obtain ⟨h1, h2, h3, h4, h5, h6, h7, h0⟩ := h
  refine ⟨h3, h6, Nat.le_refl _, h1, h0, fun p hp => ?_, h4, Nat.le_refl _, fun i hi => by have := (h4.1 i hi).2.1; omega, fun i k1 k2 => by omega, fun p k1 k2 => by omega⟩
  by_cases z : PS p = 0
  · omega
  · by_cases y : p < w
    · exact (h3 p y z).2.1
    · exact absurd (pp_z h4 (by omega) hp) z
theorem ws_wq {G w pc M w1 pc1 : Nat} {F B1 C1 PS1 PN1 P1 : Nat → Nat} (h : ws_ G w B C PS PN P pc) (hq : wq_ w M F B C PS PN P pc w1 B1 C1 PS1 PN1 P1 pc1) (hw : w + M ≤ 511) : ws_ G w1 B1 C1 PS1 PN1 P1 pc1 := by
  obtain ⟨h1, h2, h3, h4, h5, h6, h7, h0⟩ := h
  obtain ⟨q1, q2, q3, q4, q5, q6, q7, q8, q9⟩ := hq
  refine ⟨q4, fun hh j hj hg => ?_, fun p hp hz => ?_, q8, ?_, by omega, by omega, q5⟩
  · by_cases z : j < w
    · rw [q3.1 j z, q3.2.1 j z]
      exact h2 (by omega) j z hg
    · exact q6 hh j (by omega) hj
  · by_cases z : p < w
    · obtain ⟨k1, k2, k3⟩ := fr_pl q3 (Nat.le_refl _) h3 p z hz
      exact ⟨k1, k2, lc_mo (by omega) k3⟩
    · obtain ⟨k1, k2⟩ := q7 p (by omega) hp hz
      exact ⟨by omega, k1, k2⟩
  · rcases h5 with h5 | ⟨k1, k2, k3, k4, k5⟩
    · exact Or.inl h5
    · exact Or.inr ⟨by omega, k2, fr_pl q3 (by omega) k3, by rw [q3.2.2.1 _ (by omega)]; exact k4, by rw [q3.2.2.1 _ (by omega)]; exact k5⟩
theorem wn_ws {G w pc s : Nat} (hs : s < 4) (hsl : sl_ A D sz) (h : ws_ G w B C PS PN P pc) (hw : w + 64 ≤ 511) :
    ∃ (w1 : Nat) (B1 C1 PS1 PN1 P1 : Nat → Nat) (pc1 : Nat), w < w1 ∧ w1 ≤ w + 64 ∧ ws_ G w1 B1 C1 PS1 PN1 P1 pc1 ∧ fr_ w pc B C PS PN P B1 C1 PS1 PN1 P1 pc1 ∧
      (∀ post : SX → Prop, post (xca, xli, xtt, xpf, xbs, xbi, nI w1, xda, nI pc1, xis, xpr, xic, xrp, xne, ar_I A, xss, ar_I B1, xst, xse, ar_I P1, xin, xs, xty, xcl, xtl, xds, xdl, xva, xnm, xns, xna, xnp) → wpX_writeName post (xca, xli, xtt, xpf, xbs, xbi, nI w, xda, nI pc, xis, xpr, xic, xrp, xne, ar_I A, xss, ar_I B, xst, xse, ar_I P, xin, xs, xty, xcl, xtl, xds, xdl, xva, xnm, xns, xna, xnp) (nI s)) ∧
      (∀ post : Int32 → SY → Prop, post (nI w1) (yca, yli, ytt, ypf, ybs, ybi, yis, ypr, yic, yne, yie, yde, ar_I D, ar_I sz, ar_I C1, yst, yse, ar_I PS1, ar_I PN1, yin, yfa, yfo, yfs, 32768) → wpY_writeName post (yca, yli, ytt, ypf, ybs, ybi, yis, ypr, yic, yne, yie, yde, ar_I D, ar_I sz, ar_I C, yst, yse, ar_I PS, ar_I PN, yin, yfa, yfo, yfs, 32768) (nI w) (nI s)) := by
  obtain ⟨z1, z2, z3, z4⟩ := hsl.2 s hs
  obtain ⟨w1, B1, C1, PS1, PN1, P1, pc1, hq, hX, hY⟩ := wn_lock (xca := xca) (xli := xli) (xtt := xtt) (xpf := xpf) (xbs := xbs) (xbi := xbi) (xda := xda) (xis := xis) (xpr := xpr) (xic := xic) (xrp := xrp) (xne := xne) (xss := xss) (xst := xst) (xse := xse) (xin := xin) (xs := xs) (xty := xty) (xcl := xcl) (xtl := xtl) (xds := xds) (xdl := xdl) (xva := xva) (xnm := xnm) (xns := xns) (xna := xna) (xnp := xnp) (yca := yca) (yli := yli) (ytt := ytt) (ypf := ypf) (ybs := ybs) (ybi := ybi) (yis := yis) (ypr := ypr) (yic := yic) (yne := yne) (yie := yie) (yde := yde) (yst := yst) (yse := yse) (yin := yin) (yfa := yfa) (yfo := yfo) (yfs := yfs) hs z2 hsl.1 z3 64 0 w pc B C PS PN P (by omega) z4 (by omega) (li_ws h)
  refine ⟨w1, B1, C1, PS1, PN1, P1, pc1, hq.1, by have := hq.2.1; omega, ws_wq h hq (by omega), hq.2.2.1, fun post hp => ?_, fun post hp => ?_⟩
  · unfold wpX_writeName
    exact nm_r (ix_a s) ⟨66, hX 66 (by omega) post hp⟩
  · exact ⟨66, hY 66 0 (by omega) (by omega) post hp⟩
/-! two bytes -/
def p2_ (B : Nat → Nat) (w : Nat) (v : Int32) : Nat → Nat := ar_u (ar_u B w (bb_v v 8)) (w + 1) (bb_v v 0)
theorem x_p2 {post : SX → Prop} {w : Nat} {v : Int32} (hw : w + 2 ≤ 512) (h : post (xca, xli, xtt, xpf, xbs, xbi, nI (w + 2), xda, xpc, xis, xpr, xic, xrp, xne, xsn, xss, ar_I (p2_ B w v), xst, xse, xpl, xin, xs, xty, xcl, xtl, xds, xdl, xva, xnm, xns, xna, xnp)) : wpX_putTwo post (xca, xli, xtt, xpf, xbs, xbi, nI w, xda, xpc, xis, xpr, xic, xrp, xne, xsn, xss, ar_I B, xst, xse, xpl, xin, xs, xty, xcl, xtl, xds, xdl, xva, xnm, xns, xna, xnp) v := x_put2 hw h
theorem y_p2 {post : Int32 → SY → Prop} {a : Nat} {v : Int32} (ha : a + 2 ≤ 512) (h : post (nI (a + 2)) (yca, yli, ytt, ypf, ybs, ybi, yis, ypr, yic, yne, yie, yde, ysn, yss, ar_I (p2_ C a v), yst, yse, yps, ypn, yin, yfa, yfo, yfs, ynn)) : wpY_put post (yca, yli, ytt, ypf, ybs, ybi, yis, ypr, yic, yne, yie, yde, ysn, yss, ar_I C, yst, yse, yps, ypn, yin, yfa, yfo, yfs, ynn) (nI a) v 2 := y_put2 ha h
theorem y_p4 {post : Int32 → SY → Prop} {a : Nat} {v : Int32} (ha : a + 4 ≤ 512) (h : post (nI (a + 4)) (yca, yli, ytt, ypf, ybs, ybi, yis, ypr, yic, yne, yie, yde, ysn, yss, ar_I (p2_ (p2_ C a (v.toUInt32 >>> ((16 : Int32).toUInt32 &&& Int32.toUInt32 31)).toInt32) (a + 2) v), yst, yse, yps, ypn, yin, yfa, yfo, yfs, ynn)) : wpY_put post (yca, yli, ytt, ypf, ybs, ybi, yis, ypr, yic, yne, yie, yde, ysn, yss, ar_I C, yst, yse, yps, ypn, yin, yfa, yfo, yfs, ynn) (nI a) v 4 := by
  refine y_put4 ha ?_
  unfold p2_ at h
  rw [bb_2 v 16 8 (by decide), bb_2 v 16 0 (by decide)] at h
  exact h
/-! the working state of an item: since it was opened at bs -/
def wk_ (bs pc0 : Nat) (B0 C0 PS0 PN0 P0 : Nat → Nat) (G w : Nat) (B C PS PN P : Nat → Nat) (pc : Nat) : Prop :=
  ws_ G w B C PS PN P pc ∧ fr_ bs pc0 B0 C0 PS0 PN0 P0 B C PS PN P pc ∧ bs ≤ w
theorem wk_put {bs pc0 G w v pc : Nat} {B0 C0 PS0 PN0 P0 : Nat → Nat} (h : wk_ bs pc0 B0 C0 PS0 PN0 P0 G w B C PS PN P pc) (hv : v < 256) (hw : w + 1 ≤ 511) : wk_ bs pc0 B0 C0 PS0 PN0 P0 G (w + 1) (ar_u B w v) (ar_u C w v) PS PN P pc :=
  ⟨ws_put h.1 hv hw, fr_tr h.2.2 h.2.1 (fr_u (Nat.le_refl _) (Nat.le_refl _)), by have := h.2.2; omega⟩
theorem wk_p2 {bs pc0 G w pc : Nat} {v : Int32} {B0 C0 PS0 PN0 P0 : Nat → Nat} (h : wk_ bs pc0 B0 C0 PS0 PN0 P0 G w B C PS PN P pc) (hw : w + 2 ≤ 511) : wk_ bs pc0 B0 C0 PS0 PN0 P0 G (w + 2) (p2_ B w v) (p2_ C w v) PS PN P pc :=
  wk_put (wk_put h bb_lt (by omega)) bb_lt (by omega)
theorem wk_gap {bs pc0 w pc : Nat} {B0 C0 PS0 PN0 P0 : Nat → Nat} (h : wk_ bs pc0 B0 C0 PS0 PN0 P0 1000 w B C PS PN P pc) (hw : w + 2 ≤ 511) : wk_ bs pc0 B0 C0 PS0 PN0 P0 w (w + 2) (p2_ B w 0) C PS PN P pc :=
  ⟨ws_gap h.1 hw, fr_tr (Nat.le_refl _) h.2.1 (fr_tr (Nat.le_refl _) (fr_uX h.2.2) (fr_uX (by have := h.2.2; omega))), by have := h.2.2; omega⟩
theorem wk_fill {bs pc0 G w pc : Nat} {v : Int32} {B0 C0 PS0 PN0 P0 : Nat → Nat} (h : wk_ bs pc0 B0 C0 PS0 PN0 P0 G w B C PS PN P pc) (hG : G ≠ 1000) (hb : bs ≤ G) : wk_ bs pc0 B0 C0 PS0 PN0 P0 1000 w (p2_ B G v) (p2_ C G v) PS PN P pc :=
  ⟨ws_fill h.1 hG bb_lt bb_lt, fr_tr (Nat.le_refl _) h.2.1 (fr_tr (Nat.le_refl _) (fr_u hb hb) (fr_u (by omega) (by omega))), h.2.2⟩
theorem wk_wn {bs pc0 G w pc s : Nat} {B0 C0 PS0 PN0 P0 : Nat → Nat} (hs : s < 4) (hsl : sl_ A D sz) (h : wk_ bs pc0 B0 C0 PS0 PN0 P0 G w B C PS PN P pc) (hw : w + 64 ≤ 511) :
    ∃ (w1 : Nat) (B1 C1 PS1 PN1 P1 : Nat → Nat) (pc1 : Nat), w < w1 ∧ w1 ≤ w + 64 ∧ wk_ bs pc0 B0 C0 PS0 PN0 P0 G w1 B1 C1 PS1 PN1 P1 pc1 ∧
      (∀ post : SX → Prop, post (xca, xli, xtt, xpf, xbs, xbi, nI w1, xda, nI pc1, xis, xpr, xic, xrp, xne, ar_I A, xss, ar_I B1, xst, xse, ar_I P1, xin, xs, xty, xcl, xtl, xds, xdl, xva, xnm, xns, xna, xnp) → wpX_writeName post (xca, xli, xtt, xpf, xbs, xbi, nI w, xda, nI pc, xis, xpr, xic, xrp, xne, ar_I A, xss, ar_I B, xst, xse, ar_I P, xin, xs, xty, xcl, xtl, xds, xdl, xva, xnm, xns, xna, xnp) (nI s)) ∧
      (∀ post : Int32 → SY → Prop, post (nI w1) (yca, yli, ytt, ypf, ybs, ybi, yis, ypr, yic, yne, yie, yde, ar_I D, ar_I sz, ar_I C1, yst, yse, ar_I PS1, ar_I PN1, yin, yfa, yfo, yfs, 32768) → wpY_writeName post (yca, yli, ytt, ypf, ybs, ybi, yis, ypr, yic, yne, yie, yde, ar_I D, ar_I sz, ar_I C, yst, yse, ar_I PS, ar_I PN, yin, yfa, yfo, yfs, 32768) (nI w) (nI s)) := by
  obtain ⟨w1, B1, C1, PS1, PN1, P1, pc1, h1, h2, h3, h4, hX, hY⟩ := wn_ws (xca := xca) (xli := xli) (xtt := xtt) (xpf := xpf) (xbs := xbs) (xbi := xbi) (xda := xda) (xis := xis) (xpr := xpr) (xic := xic) (xrp := xrp) (xne := xne) (xss := xss) (xst := xst) (xse := xse) (xin := xin) (xs := xs) (xty := xty) (xcl := xcl) (xtl := xtl) (xds := xds) (xdl := xdl) (xva := xva) (xnm := xnm) (xns := xns) (xna := xna) (xnp := xnp) (yca := yca) (yli := yli) (ytt := ytt) (ypf := ypf) (ybs := ybs) (ybi := ybi) (yis := yis) (ypr := ypr) (yic := yic) (yne := yne) (yie := yie) (yde := yde) (yst := yst) (yse := yse) (yin := yin) (yfa := yfa) (yfo := yfo) (yfs := yfs) hs hsl h.1 hw
  exact ⟨w1, B1, C1, PS1, PN1, P1, pc1, h1, h2, ⟨h3, fr_tr h.2.2 h.2.1 h4, by have := h.2.2; omega⟩, hX, hY⟩
end WSX
end
section
/-! parsed items and the relation -/
def nf_ (m : Nat) (c : Nat → Nat) : Prop := m ≤ 64 ∧ (∀ j, j < m → c j < 256) ∧ wn_ c 0 m
/-- Y's decode up to item i, from any state with this input, ends with these facts -/
def yd_ (b : Nat → Nat) (z lim i : Nat) (F : Nat → Int64) (m0 m1 : Nat) (c0 c1 : Nat → Nat) : Prop :=
  ∀ (yca ytt ypf ybs ybi ypr yic yne yie yde : Int32) (ysn yss ybu yst yse yps ypn : Nat → Int32) (yfa : Nat → Int64) (yfs : Nat → Int32) (ynn : Nat) (fo : Nat → Nat) (post : Int32 → SY → Prop),
    (∀ (yne yie yde : Int32) (yfa : Nat → Int64) (fo : Nat → Nat) (yfs : Nat → Int32), (∀ k, k < 11 → yfa k = F k) → yfs 0 = nI m0 → yfs 1 = nI m1 → (∀ j, j < m0 → fo j = c0 j) → (∀ j, j < m1 → fo (64 + j) = c1 j) → post 1 (yca, nI lim, ytt, ypf, ybs, ybi, nI z, ypr, yic, yne, yie, yde, ysn, yss, ybu, yst, yse, yps, ypn, ar_I b, yfa, ar_I fo, yfs, ynn)) →
    wpY_decode post (yca, nI lim, ytt, ypf, ybs, ybi, nI z, ypr, yic, yne, yie, yde, ysn, yss, ybu, yst, yse, yps, ypn, ar_I b, yfa, ar_I fo, yfs, ynn) (nI i)
/-- X's arrays hold these facts at item i -/
def xi_ (i : Nat) (xs xty xcl : Nat → Int32) (xtl : Nat → Int64) (xds xdl : Nat → Int32) (xva : Nat → Int64) (xnm xns xna xnp : Nat → Int32) (F : Nat → Int64) (m0 m1 : Nat) (c0 c1 : Nat → Nat) : Prop :=
  ((xs i).toInt64 = F 0 ∧ (xty i).toInt64 = F 1 ∧ (xcl i).toInt64 = F 2 ∧ xtl i = F 3 ∧ (xds i).toInt64 = F 4 ∧ (xdl i).toInt64 = F 5 ∧ xva i = F 6 ∧ (xna (2 * i)).toInt64 = F 7 ∧ (xnp (2 * i)).toInt64 = F 8 ∧ (xna (2 * i + 1)).toInt64 = F 9 ∧ (xnp (2 * i + 1)).toInt64 = F 10) ∧
  (xns (2 * i) = nI m0 ∧ (∀ j, j < m0 → xnm (64 * (2 * i) + j) = nI (c0 j)) ∧ ¬ xna (2 * i) = -1) ∧
  ((m1 = 0 ∧ xna (2 * i + 1) = -1) ∨ (1 ≤ m1 ∧ ¬ xna (2 * i + 1) = -1 ∧ xns (2 * i + 1) = nI m1 ∧ ∀ j, j < m1 → xnm (64 * (2 * i + 1) + j) = nI (c1 j)))
def it_ (b : Nat → Nat) (z lim ic : Nat) (xs xty xcl : Nat → Int32) (xtl : Nat → Int64) (xds xdl : Nat → Int32) (xva : Nat → Int64) (xnm xns xna xnp : Nat → Int32) : Prop :=
  ∀ i, i < ic → ∃ (F : Nat → Int64) (m0 m1 : Nat) (c0 c1 : Nat → Nat), nf_ m0 c0 ∧ (m1 = 0 ∨ nf_ m1 c1) ∧ xi_ i xs xty xcl xtl xds xdl xva xnm xns xna xnp F m0 m1 c0 c1 ∧ yd_ b z lim i F m0 m1 c0 c1
def ip_ (b : Nat → Nat) (z ic : Nat) : Prop := z ≤ 255 ∧ (∀ j, b j < 256) ∧ ic ≤ 16
/-- the relation: whatever holds of all related pairs holds of this one -/
def i_Rel (k : Nat) (u : SX) (v : SY) : Prop :=
  ∀ Pr : SX → SY → Prop, (∀ (cap lim bs bi pc z ic : Nat) (xtt xpf xwe xda xpr xrp xne yne yie yde : Int32) (A D sz B C st se PS PN P b fo : Nat → Nat) (xs xty xcl xds xdl xnm xns xna xnp yfs : Nat → Int32) (xtl xva yfa : Nat → Int64), sl_ A D sz → bl_ cap lim bs bi B C st se PS PN P pc → ip_ b z ic → it_ b z lim ic xs xty xcl xtl xds xdl xva xnm xns xna xnp → Pr (nI cap, nI lim, xtt, xpf, nI bs, nI bi, xwe, xda, nI pc, nI z, xpr, nI ic, xrp, xne, ar_I A, ar_I sz, ar_I B, ar_I st, ar_I se, ar_I P, ar_I b, xs, xty, xcl, xtl, xds, xdl, xva, xnm, xns, xna, xnp) (nI cap, nI lim, xtt, xpf, nI bs, nI bi, nI z, xpr, nI ic, yne, yie, yde, ar_I D, ar_I sz, ar_I C, ar_I st, ar_I se, ar_I PS, ar_I PN, ar_I b, yfa, ar_I fo, yfs, 32768)) → Pr u v
theorem rl_mk {k : Nat} {cap lim bs bi pc z ic : Nat} {xtt xpf xwe xda xpr xrp xne yne yie yde : Int32} {A D sz B C st se PS PN P b fo : Nat → Nat} {xs xty xcl xds xdl xnm xns xna xnp yfs : Nat → Int32} {xtl xva yfa : Nat → Int64} (h1 : sl_ A D sz) (h2 : bl_ cap lim bs bi B C st se PS PN P pc) (h3 : ip_ b z ic) (h4 : it_ b z lim ic xs xty xcl xtl xds xdl xva xnm xns xna xnp) : i_Rel k (nI cap, nI lim, xtt, xpf, nI bs, nI bi, xwe, xda, nI pc, nI z, xpr, nI ic, xrp, xne, ar_I A, ar_I sz, ar_I B, ar_I st, ar_I se, ar_I P, ar_I b, xs, xty, xcl, xtl, xds, xdl, xva, xnm, xns, xna, xnp) (nI cap, nI lim, xtt, xpf, nI bs, nI bi, nI z, xpr, nI ic, yne, yie, yde, ar_I D, ar_I sz, ar_I C, ar_I st, ar_I se, ar_I PS, ar_I PN, ar_I b, yfa, ar_I fo, yfs, 32768) :=
  fun _ h => h cap lim bs bi pc z ic xtt xpf xwe xda xpr xrp xne yne yie yde A D sz B C st se PS PN P b fo xs xty xcl xds xdl xnm xns xna xnp yfs xtl xva yfa h1 h2 h3 h4
theorem i_up {k : Nat} {u : SX} {v : SY} (h : i_Rel k u v) : i_Rel (k + 5) u v := h
def lk_ (k : Nat) (WX : (Int32 → SX → Prop) → Prop) (WY : (Int32 → SY → Prop) → Prop) : Prop :=
  ∃ (r : Int32) (u' : SX) (v' : SY), i_Rel (k + 5) u' v' ∧ (∀ post, post r u' → WX post) ∧ (∀ post, post r v' → WY post)
theorem lk_use {k : Nat} {WX : (Int32 → SX → Prop) → Prop} {WY : (Int32 → SY → Prop) → Prop} (h : lk_ k WX WY) : WX (fun r u' => WY (fun r' v' => r' = r ∧ i_Rel (k + 5) u' v')) := by
  obtain ⟨r, u', v', h1, h2, h3⟩ := h
  exact h2 _ (h3 _ ⟨rfl, h1⟩)
theorem it_0 {b : Nat → Nat} {z lim : Nat} {xs xty xcl : Nat → Int32} {xtl : Nat → Int64} {xds xdl : Nat → Int32} {xva : Nat → Int64} {xnm xns xna xnp : Nat → Int32} : it_ b z lim 0 xs xty xcl xtl xds xdl xva xnm xns xna xnp := fun i hi => absurd hi (Nat.not_lt_zero i)
end
section
/-! the simple calls -/
section SIMPLE
variable {xca xli xtt xpf xbs xbi xwe xda xpc xis xpr xic xrp xne : Int32} {xsn xss xbu xst xse xpl xin xs xty xcl : Nat → Int32} {xtl : Nat → Int64} {xds xdl : Nat → Int32} {xva : Nat → Int64} {xnm xns xna xnp : Nat → Int32}
variable {yca yli ytt ypf ybs ybi yis ypr yic yne yie yde : Int32} {ysn yss ybu yst yse yps ypn yin : Nat → Int32} {yfa : Nat → Int64} {yfo yfs : Nat → Int32} {ynn : Nat}
variable {A D sz B C st se PS PN P b fo : Nat → Nat}
theorem sl_cs (x : Int32) : (x < 0 ∨ nI 4 ≤ x) ∨ ∃ s, s < 4 ∧ x = nI s := by
  rcases pk_ix x (n := 4) (by decide) with h | h | h
  · exact Or.inl (Or.inl h)
  · exact Or.inl (Or.inr h)
  · exact Or.inr h
theorem ge_n {x : Int32} {n : Nat} (h : nI n ≤ x) (hn : n < 2 ^ 31) : ¬ x < 0 ∧ ¬ x < nI n := ⟨Int32.not_lt.mpr (Int32.le_trans (nI_pos' hn) h), Int32.not_lt.mpr h⟩
theorem ge_4 {x : Int32} (h : nI 4 ≤ x) : ¬ x < 0 ∧ ¬ x ≤ 3 := by
  refine ⟨(ge_n h (by decide)).1, fun z => ?_⟩
  rw [Int32.le_iff_toInt_le] at h z
  rw [nI_toInt (by decide)] at h
  rw [show (3 : Int32).toInt = 3 from by decide] at z
  omega
theorem ns_br {x : Int32} {E F : Prop} (h : x < 0 ∨ nI 4 ≤ x) (a : E) : (x < 0 → E) ∧ (¬ x < 0 → ((x ≤ 3 → F) ∧ (¬ x ≤ 3 → E))) := by
  rcases h with h | h
  · exact br_t h a
  · exact br_f (ge_4 h).1 (br_f (ge_4 h).2 a)
theorem sl_br {s : Nat} {E F : Prop} (hs : s < 4) (a : F) : (nI s < 0 → E) ∧ (¬ nI s < 0 → ((nI s ≤ 3 → F) ∧ (¬ nI s ≤ 3 → E))) :=
  br_f (nI_pos (by omega)) (br_t (nI_le (b := 3) (by omega) (by decide)) a)
theorem x_root {post : SX → Prop} {s : Nat} (hs : s < 4) (h : post (xca, xli, xtt, xpf, xbs, xbi, xwe, xda, xpc, xis, xpr, xic, xrp, xne, ar_I (ar_u A (64 * s) 0), ar_I (ar_u sz s 1), xbu, xst, xse, xpl, xin, xs, xty, xcl, xtl, xds, xdl, xva, xnm, xns, xna, xnp)) : wpX_makeRoot post (xca, xli, xtt, xpf, xbs, xbi, xwe, xda, xpc, xis, xpr, xic, xrp, xne, ar_I A, ar_I sz, xbu, xst, xse, xpl, xin, xs, xty, xcl, xtl, xds, xdl, xva, xnm, xns, xna, xnp) (nI s) :=
  And.intro (pk_in (64 * s) 256 (by omega) (ix_a s)) (nm_r (ar_st (64 * s) 0 (ix_a s)) (And.intro (vp_in_nI hs (by decide)) (nm_r (ar_st s 1) h)))
theorem i_vc_clearName {k : Nat} {u : SX} {v : SY} (I : i_Rel k u v) (hk : k + 5 ≤ 2562) (v1 : Int32) : wpX_clearName (fun r u' => wpY_clearName (fun r' v' => r' = r ∧ i_Rel (k + 5) u' v') v v1) u v1 := by
  refine I (fun u v => wpX_clearName (fun r u' => wpY_clearName (fun r' v' => r' = r ∧ i_Rel (k + 5) u' v') v v1) u v1) ?_
  intro cap lim bs bi pc z ic xtt xpf xwe xda xpr xrp xne yne yie yde A D sz B C st se PS PN P b fo xs xty xcl xds xdl xnm xns xna xnp yfs xtl xva yfa hsl hbl hin hit
  refine lk_use (WX := fun post => wpX_clearName post (nI cap, nI lim, xtt, xpf, nI bs, nI bi, xwe, xda, nI pc, nI z, xpr, nI ic, xrp, xne, ar_I A, ar_I sz, ar_I B, ar_I st, ar_I se, ar_I P, ar_I b, xs, xty, xcl, xtl, xds, xdl, xva, xnm, xns, xna, xnp) v1) (WY := fun post => wpY_clearName post (nI cap, nI lim, xtt, xpf, nI bs, nI bi, nI z, xpr, nI ic, yne, yie, yde, ar_I D, ar_I sz, ar_I C, ar_I st, ar_I se, ar_I PS, ar_I PN, ar_I b, yfa, ar_I fo, yfs, 32768) v1) ?_
  rcases sl_cs v1 with h | ⟨s, hs, rfl⟩
  · refine ⟨-2, (nI cap, nI lim, xtt, xpf, nI bs, nI bi, xwe, xda, nI pc, nI z, xpr, nI ic, xrp, xne, ar_I A, ar_I sz, ar_I B, ar_I st, ar_I se, ar_I P, ar_I b, xs, xty, xcl, xtl, xds, xdl, xva, xnm, xns, xna, xnp), (nI cap, nI lim, xtt, xpf, nI bs, nI bi, nI z, xpr, nI ic, yne, yie, yde, ar_I D, ar_I sz, ar_I C, ar_I st, ar_I se, ar_I PS, ar_I PN, ar_I b, yfa, ar_I fo, yfs, 32768), rl_mk hsl hbl hin hit, fun post hp => ?_, fun post hp => ns_br h hp⟩
    unfold wpX_clearName
    exact x_nslot h (br_t rfl hp)
  · refine ⟨1, (nI cap, nI lim, xtt, xpf, nI bs, nI bi, xwe, xda, nI pc, nI z, xpr, nI ic, xrp, xne, ar_I (ar_u A (64 * s) 0), ar_I (ar_u sz s 1), ar_I B, ar_I st, ar_I se, ar_I P, ar_I b, xs, xty, xcl, xtl, xds, xdl, xva, xnm, xns, xna, xnp), (nI cap, nI lim, xtt, xpf, nI bs, nI bi, nI z, xpr, nI ic, yne, yie, yde, ar_I (ar_u D (64 * s) 0), ar_I (ar_u sz s 1), ar_I C, ar_I st, ar_I se, ar_I PS, ar_I PN, ar_I b, yfa, ar_I fo, yfs, 32768), rl_mk (sl_up hsl (by_u hsl.1 (by decide)) (fun j hj => ar_un (by omega)) (fun j hj => ar_un (by omega)) (by decide) (fun j hj => ?_) (wn_i0 ar_us)) hbl hin hit, fun post hp => ?_, fun post hp => sl_br hs ⟨pk_in (64 * s) 256 (by omega) (ix_a s), nm_r (ar_st (64 * s) 0 (ix_a s)) ⟨vp_in_nI hs (by decide), nm_r (ar_st s 1) hp⟩⟩⟩
    · rw [show j = 0 by omega, Nat.add_zero, ar_us, ar_us]
    · unfold wpX_clearName
      exact x_slot hs (br_f (by decide) (x_root hs hp))
theorem i_vc_slotByte {k : Nat} {u : SX} {v : SY} (I : i_Rel k u v) (hk : k + 5 ≤ 2562) (v1 : Int32) (v2 : Int32) : wpX_slotByte (fun r => wpY_slotByte (fun r' => r' = r ∧ i_Rel (k + 5) u v) v v1 v2) u v1 v2 := by
  refine I (fun u v => wpX_slotByte (fun r => wpY_slotByte (fun r' => r' = r ∧ i_Rel (k + 5) u v) v v1 v2) u v1 v2) ?_
  intro cap lim bs bi pc z ic xtt xpf xwe xda xpr xrp xne yne yie yde A D sz B C st se PS PN P b fo xs xty xcl xds xdl xnm xns xna xnp yfs xtl xva yfa hsl hbl hin hit
  have R : i_Rel (k + 5) (nI cap, nI lim, xtt, xpf, nI bs, nI bi, xwe, xda, nI pc, nI z, xpr, nI ic, xrp, xne, ar_I A, ar_I sz, ar_I B, ar_I st, ar_I se, ar_I P, ar_I b, xs, xty, xcl, xtl, xds, xdl, xva, xnm, xns, xna, xnp) (nI cap, nI lim, xtt, xpf, nI bs, nI bi, nI z, xpr, nI ic, yne, yie, yde, ar_I D, ar_I sz, ar_I C, ar_I st, ar_I se, ar_I PS, ar_I PN, ar_I b, yfa, ar_I fo, yfs, 32768) := rl_mk hsl hbl hin hit
  unfold wpX_slotByte
  rcases sl_cs v1 with h | ⟨s, hs, rfl⟩
  · exact x_nslot h (br_t rfl (ns_br h ⟨rfl, R⟩))
  · obtain ⟨z1, z2, z3, z4⟩ := hsl.2 s hs
    have i4 : vp_in (nI s) 4 := vp_in_nI hs (by decide)
    refine x_slot hs (br_f (by decide) ?_)
    rcases pk_ix v2 (n := sz s) (by omega) with h | h | ⟨p, hp, rfl⟩
    · exact br_t h (sl_br hs (br_t h ⟨rfl, R⟩))
    · have h' := ge_n h (by omega)
      exact br_f h'.1 ⟨i4, br_f (by rw [ar_rd s]; exact h'.2) (sl_br hs (br_f h'.1 ⟨i4, br_f (by rw [ar_rd s]; exact h'.2) ⟨rfl, R⟩⟩))⟩
    · have h' : ¬ nI p < 0 := nI_pos (by omega)
      have h2 : nI p < ar_I sz (nI s).toNatClampNeg := by rw [ar_rd s]; exact nI_lt hp (by omega)
      have h3 : vp_in (nI s * 64 + nI p) 256 := pk_in (64 * s + p) 256 (by omega) (ix_b s p)
      exact br_f h' ⟨i4, br_t h2 ⟨h3, sl_br hs (br_f h' ⟨i4, br_t h2 ⟨h3, by rw [ar_rd (64 * s + p) (ix_b s p), ar_rd (64 * s + p) (ix_b s p), z3 p hp], R⟩⟩)⟩⟩
theorem i_vc_setFields {k : Nat} {u : SX} {v : SY} (I : i_Rel k u v) (hk : k + 5 ≤ 2562) (v1 : Int32) (v2 : Int32) : wpX_setFields (fun u' => wpY_setFields (fun v' => i_Rel (k + 5) u' v') v v1 v2) u v1 v2 := by
  refine I (fun u v => wpX_setFields (fun u' => wpY_setFields (fun v' => i_Rel (k + 5) u' v') v v1 v2) u v1 v2) ?_
  intro cap lim bs bi pc z ic xtt xpf xwe xda xpr xrp xne yne yie yde A D sz B C st se PS PN P b fo xs xty xcl xds xdl xnm xns xna xnp yfs xtl xva yfa hsl hbl hin hit
  intro y ey z ez
  subst ey ez
  exact rl_mk hsl hbl hin hit
theorem i_vc_builtByte {k : Nat} {u : SX} {v : SY} (I : i_Rel k u v) (hk : k + 5 ≤ 2562) (v1 : Int32) : wpX_builtByte (fun r => wpY_builtByte (fun r' => r' = r ∧ i_Rel (k + 5) u v) v v1) u v1 := by
  refine I (fun u v => wpX_builtByte (fun r => wpY_builtByte (fun r' => r' = r ∧ i_Rel (k + 5) u v) v v1) u v1) ?_
  intro cap lim bs bi pc z ic xtt xpf xwe xda xpr xrp xne yne yie yde A D sz B C st se PS PN P b fo xs xty xcl xds xdl xnm xns xna xnp yfs xtl xva yfa hsl hbl hin hit
  have R : i_Rel (k + 5) (nI cap, nI lim, xtt, xpf, nI bs, nI bi, xwe, xda, nI pc, nI z, xpr, nI ic, xrp, xne, ar_I A, ar_I sz, ar_I B, ar_I st, ar_I se, ar_I P, ar_I b, xs, xty, xcl, xtl, xds, xdl, xva, xnm, xns, xna, xnp) (nI cap, nI lim, xtt, xpf, nI bs, nI bi, nI z, xpr, nI ic, yne, yie, yde, ar_I D, ar_I sz, ar_I C, ar_I st, ar_I se, ar_I PS, ar_I PN, ar_I b, yfa, ar_I fo, yfs, 32768) := rl_mk hsl hbl hin hit
  have hg := bl_ag hbl
  have hc : bs ≤ 255 := by obtain ⟨_, h2, _, _, h5, _⟩ := hbl; omega
  rcases pk_ix v1 (n := bs) (by omega) with h | h | ⟨p, hp, rfl⟩
  · exact br_t h (br_t h ⟨rfl, R⟩)
  · have h' := ge_n h (by omega)
    exact br_f h'.1 (br_f h'.2 (br_f h'.1 (br_f h'.2 ⟨rfl, R⟩)))
  · have h' : ¬ nI p < 0 := nI_pos (by omega)
    have h2 : nI p < nI bs := nI_lt hp (by omega)
    have h3 : vp_in (nI p) 512 := vp_in_nI (by omega) (by decide)
    exact br_f h' (br_t h2 ⟨h3, br_f h' (br_t h2 ⟨h3, by rw [ar_rd p, ar_rd p, hg p hp], R⟩)⟩)
theorem i_vc_inputByte {k : Nat} {u : SX} {v : SY} (I : i_Rel k u v) (hk : k + 5 ≤ 2562) (v1 : Int32) : wpX_inputByte (fun r => wpY_inputByte (fun r' => r' = r ∧ i_Rel (k + 5) u v) v v1) u v1 := by
  refine I (fun u v => wpX_inputByte (fun r => wpY_inputByte (fun r' => r' = r ∧ i_Rel (k + 5) u v) v v1) u v1) ?_
  intro cap lim bs bi pc z ic xtt xpf xwe xda xpr xrp xne yne yie yde A D sz B C st se PS PN P b fo xs xty xcl xds xdl xnm xns xna xnp yfs xtl xva yfa hsl hbl hin hit
  have R : i_Rel (k + 5) (nI cap, nI lim, xtt, xpf, nI bs, nI bi, xwe, xda, nI pc, nI z, xpr, nI ic, xrp, xne, ar_I A, ar_I sz, ar_I B, ar_I st, ar_I se, ar_I P, ar_I b, xs, xty, xcl, xtl, xds, xdl, xva, xnm, xns, xna, xnp) (nI cap, nI lim, xtt, xpf, nI bs, nI bi, nI z, xpr, nI ic, yne, yie, yde, ar_I D, ar_I sz, ar_I C, ar_I st, ar_I se, ar_I PS, ar_I PN, ar_I b, yfa, ar_I fo, yfs, 32768) := rl_mk hsl hbl hin hit
  have hc : z ≤ 255 := hin.1
  rcases pk_ix v1 (n := z) (by omega) with h | h | ⟨p, hp, rfl⟩
  · exact br_t h (br_t h ⟨rfl, R⟩)
  · have h' := ge_n h (by omega)
    exact br_f h'.1 (br_f h'.2 (br_f h'.1 (br_f h'.2 ⟨rfl, R⟩)))
  · have h' : ¬ nI p < 0 := nI_pos (by omega)
    have h2 : nI p < nI z := nI_lt hp (by omega)
    have h3 : vp_in (nI p) 255 := vp_in_nI (by omega) (by decide)
    exact br_f h' (br_t h2 ⟨h3, br_f h' (br_t h2 ⟨h3, rfl, R⟩)⟩)
theorem i_vc_poke {k : Nat} {u : SX} {v : SY} (I : i_Rel k u v) (hk : k + 5 ≤ 2562) (v1 : Int32) (v2 : Int32) : wpX_poke (fun r u' => wpY_poke (fun r' v' => r' = r ∧ i_Rel (k + 5) u' v') v v1 v2) u v1 v2 := by
  refine I (fun u v => wpX_poke (fun r u' => wpY_poke (fun r' v' => r' = r ∧ i_Rel (k + 5) u' v') v v1 v2) u v1 v2) ?_
  intro cap lim bs bi pc z ic xtt xpf xwe xda xpr xrp xne yne yie yde A D sz B C st se PS PN P b fo xs xty xcl xds xdl xnm xns xna xnp yfs xtl xva yfa hsl hbl hin hit
  have R : i_Rel (k + 5) (nI cap, nI lim, xtt, xpf, nI bs, nI bi, xwe, xda, nI pc, nI z, xpr, nI ic, xrp, xne, ar_I A, ar_I sz, ar_I B, ar_I st, ar_I se, ar_I P, ar_I b, xs, xty, xcl, xtl, xds, xdl, xva, xnm, xns, xna, xnp) (nI cap, nI lim, xtt, xpf, nI bs, nI bi, nI z, xpr, nI ic, yne, yie, yde, ar_I D, ar_I sz, ar_I C, ar_I st, ar_I se, ar_I PS, ar_I PN, ar_I b, yfa, ar_I fo, yfs, 32768) := rl_mk hsl hbl hin hit
  have hc : z ≤ 255 := hin.1
  rcases pk_ix v1 (n := z) (by omega) with h | h | ⟨p, hp, rfl⟩
  · exact br_t h (br_t h ⟨rfl, R⟩)
  · have h' := ge_n h (by omega)
    exact br_f h'.1 (br_f h'.2 (br_f h'.1 (br_f h'.2 ⟨rfl, R⟩)))
  · have h' : ¬ nI p < 0 := nI_pos (by omega)
    have h2 : nI p < nI z := nI_lt hp (by omega)
    have h3 : vp_in (nI p) 255 := vp_in_nI (by omega) (by decide)
    have R2 : i_Rel (k + 5) (nI cap, nI lim, xtt, xpf, nI bs, nI bi, xwe, xda, nI pc, nI z, 0, nI 0, xrp, xne, ar_I A, ar_I sz, ar_I B, ar_I st, ar_I se, ar_I P, ar_I (ar_u b p (bb_v v2 0)), xs, xty, xcl, xtl, xds, xdl, xva, xnm, xns, xna, xnp) (nI cap, nI lim, xtt, xpf, nI bs, nI bi, nI z, 0, nI 0, yne, yie, yde, ar_I D, ar_I sz, ar_I C, ar_I st, ar_I se, ar_I PS, ar_I PN, ar_I (ar_u b p (bb_v v2 0)), yfa, ar_I fo, yfs, 32768) := rl_mk hsl hbl ⟨hc, by_u hin.2.1 bb_lt, by decide⟩ it_0
    exact br_f h' (br_t h2 ⟨h3, nm_e ⟨h3, nm_r (ar_st p (bb_v v2 0) rfl (bb_0 v2)) (br_f h' (br_t h2 ⟨h3, nm_e ⟨h3, nm_r (ar_st p (bb_v v2 0) rfl (bb_0 v2)) ⟨rfl, R2⟩⟩⟩))⟩⟩)
/-! loading -/
theorem ar_bcg {E F G : Nat → Nat} {a n : Nat} (h : ∀ i, i < n → F i = G i) : ar_bw E a F n = ar_bw E a G n := by
  funext j
  by_cases z : j < a ∨ a + n ≤ j
  · rw [ar_bo z, ar_bo z]
  · rw [ar_bi (by omega) (by omega), ar_bi (by omega) (by omega)]
    exact h _ (by omega)
theorem x_ldb {post : Int32 → SX → Prop} {bs : Nat} (hb : bs ≤ 255) (h : post (nI bs) (xca, xli, xtt, xpf, nI bs, xbi, xwe, xda, xpc, nI bs, 0, nI 0, xrp, xne, xsn, xss, ar_I B, xst, xse, xpl, ar_I (ar_bw b 0 B bs), xs, xty, xcl, xtl, xds, xdl, xva, xnm, xns, xna, xnp)) :
    ∀ d i n, i + d = bs → d < n → wX_loadBuilt_2 post xca xli xtt xpf (nI bs) xbi xwe xda xpc xis xpr xic xrp xne n (nI i) xsn xss (ar_I B) xst xse xpl (ar_I (ar_bw b 0 B i)) xs xty xcl xtl xds xdl xva xnm xns xna xnp := by
  intro d
  induction d with
  | zero =>
    intro i n h1 h2
    obtain ⟨n, rfl⟩ : ∃ m, n = m + 1 := ⟨n - 1, by omega⟩
    have e : i = bs := by omega
    subst e
    exact br_t (nI_le (Nat.le_refl _) (by omega)) h
  | succ d ih =>
    intro i n h1 h2
    obtain ⟨n, rfl⟩ : ∃ m, n = m + 1 := ⟨n - 1, by omega⟩
    have K := ih (i + 1) n (by omega) (by omega)
    rw [← ar_bS, Nat.zero_add] at K
    exact br_f (nI_ge (by omega) (by omega)) ⟨vp_in_nI (by omega) (by decide), vp_in_nI (by omega) (by decide), nm_r (ar_st i (B i) rfl (ar_rd i)) (nm_r (nI_1 i) K)⟩
theorem y_ldb {post : Int32 → SY → Prop} {bs : Nat} (hb : bs ≤ 255) (h : post (nI bs) (yca, yli, ytt, ypf, nI bs, ybi, nI bs, 0, nI 0, yne, yie, yde, ysn, yss, ar_I C, yst, yse, yps, ypn, ar_I (ar_bw b 0 C bs), yfa, yfo, yfs, ynn)) :
    ∀ d i n, i + d = bs → d < n → wY_loadBuilt_2 post yca yli ytt ypf (nI bs) ybi yis ypr yic yne yie yde ynn n (nI i) ysn yss (ar_I C) yst yse yps ypn (ar_I (ar_bw b 0 C i)) yfa yfo yfs := by
  intro d
  induction d with
  | zero =>
    intro i n h1 h2
    obtain ⟨n, rfl⟩ : ∃ m, n = m + 1 := ⟨n - 1, by omega⟩
    have e : i = bs := by omega
    subst e
    exact br_t (nI_le (Nat.le_refl _) (by omega)) h
  | succ d ih =>
    intro i n h1 h2
    obtain ⟨n, rfl⟩ : ∃ m, n = m + 1 := ⟨n - 1, by omega⟩
    have K := ih (i + 1) n (by omega) (by omega)
    rw [← ar_bS, Nat.zero_add] at K
    exact br_f (nI_ge (by omega) (by omega)) ⟨vp_in_nI (by omega) (by decide), vp_in_nI (by omega) (by decide), nm_r (ar_st i (C i) rfl (ar_rd i)) (nm_r (nI_1 i) K)⟩
theorem i_vc_loadBuilt {k : Nat} {u : SX} {v : SY} (I : i_Rel k u v) (hk : k + 5 ≤ 2562) : wpX_loadBuilt (fun r u' => wpY_loadBuilt (fun r' v' => r' = r ∧ i_Rel (k + 5) u' v') v) u := by
  refine I (fun u v => wpX_loadBuilt (fun r u' => wpY_loadBuilt (fun r' v' => r' = r ∧ i_Rel (k + 5) u' v') v) u) ?_
  intro cap lim bs bi pc z ic xtt xpf xwe xda xpr xrp xne yne yie yde A D sz B C st se PS PN P b fo xs xty xcl xds xdl xnm xns xna xnp yfs xtl xva yfa hsl hbl hin hit
  have hg := bl_ag hbl
  have hc : bs ≤ 255 := by obtain ⟨_, h2, _, _, h5, _⟩ := hbl; omega
  have hB := hbl.2.2.2.2.2.2.1.1
  have R2 : i_Rel (k + 5) (nI cap, nI lim, xtt, xpf, nI bs, nI bi, xwe, xda, nI pc, nI bs, 0, nI 0, xrp, xne, ar_I A, ar_I sz, ar_I B, ar_I st, ar_I se, ar_I P, ar_I (ar_bw b 0 B bs), xs, xty, xcl, xtl, xds, xdl, xva, xnm, xns, xna, xnp) (nI cap, nI lim, xtt, xpf, nI bs, nI bi, nI bs, 0, nI 0, yne, yie, yde, ar_I D, ar_I sz, ar_I C, ar_I st, ar_I se, ar_I PS, ar_I PN, ar_I (ar_bw b 0 B bs), yfa, ar_I fo, yfs, 32768) := rl_mk hsl hbl ⟨hc, by_w hin.2.1 (fun i _ => hB i), by decide⟩ it_0
  refine lk_use (WX := fun post => wpX_loadBuilt post (nI cap, nI lim, xtt, xpf, nI bs, nI bi, xwe, xda, nI pc, nI z, xpr, nI ic, xrp, xne, ar_I A, ar_I sz, ar_I B, ar_I st, ar_I se, ar_I P, ar_I b, xs, xty, xcl, xtl, xds, xdl, xva, xnm, xns, xna, xnp)) (WY := fun post => wpY_loadBuilt post (nI cap, nI lim, xtt, xpf, nI bs, nI bi, nI z, xpr, nI ic, yne, yie, yde, ar_I D, ar_I sz, ar_I C, ar_I st, ar_I se, ar_I PS, ar_I PN, ar_I b, yfa, ar_I fo, yfs, 32768)) ⟨nI bs, _, _, R2, fun post hp => ⟨bs + 1, ?_⟩, fun post hp => ⟨bs + 1, ?_⟩⟩
  · have K := x_ldb (xis := nI z) (xpr := xpr) (xic := nI ic) (B := B) (b := b) hc hp bs 0 (bs + 1) (by omega) (by omega)
    rw [ar_b0] at K
    exact K
  · rw [ar_bcg (fun i hi => (hg i hi).symm)] at hp
    have K := y_ldb (yis := nI z) (ypr := xpr) (yic := nI ic) (C := C) (b := b) hc hp bs 0 (bs + 1) (by omega) (by omega)
    rw [ar_b0] at K
    exact K
theorem x_lby {post : Int32 → SX → Prop} {t : Int64} {z m : Nat} (hz : z + m ≤ 255) (hm : m ≤ 8) (h : post (nI (z + m)) (xca, xli, xtt, xpf, xbs, xbi, xwe, xda, xpc, nI (z + m), 0, nI 0, xrp, xne, xsn, xss, xbu, xst, xse, xpl, ar_I (ar_bw b z (tx_b t) m), xs, xty, xcl, xtl, xds, xdl, xva, xnm, xns, xna, xnp)) :
    ∀ d i n, i + d = m → d < n → wX_loadBytes_42 post (nI m) t xca xli xtt xpf xbs xbi xwe xda xpc (nI z) xpr xic xrp xne n (nI i) xsn xss xbu xst xse xpl (ar_I (ar_bw b z (tx_b t) i)) xs xty xcl xtl xds xdl xva xnm xns xna xnp := by
  intro d
  induction d with
  | zero =>
    intro i n h1 h2
    obtain ⟨n, rfl⟩ : ∃ m, n = m + 1 := ⟨n - 1, by omega⟩
    have e : i = m := by omega
    subst e
    exact br_t (nI_le (Nat.le_refl _) (by omega)) (nm_r (nI_add z i) h)
  | succ d ih =>
    intro i n h1 h2
    obtain ⟨n, rfl⟩ : ∃ m, n = m + 1 := ⟨n - 1, by omega⟩
    have K := ih (i + 1) n (by omega) (by omega)
    rw [← ar_bS] at K
    exact br_f (nI_ge (by omega) (by omega)) (x_byte (by omega) ⟨pk_in (z + i) 255 (by omega) (nI_add z i), nm_r (ar_st (z + i) (tx_b t i) (nI_add z i)) (nm_r (nI_1 i) K)⟩)
theorem y_lby {post : Int32 → SY → Prop} {t : Int64} {z m : Nat} (hz : z + m ≤ 255) (hm : m ≤ 8) (h : post (nI (if m = 0 then 0 else z + m)) (yca, yli, ytt, ypf, ybs, ybi, nI (if m = 0 then 0 else z + m), 0, nI 0, yne, yie, yde, ysn, yss, ybu, yst, yse, yps, ypn, ar_I (ar_bw b z (tx_b t) m), yfa, yfo, yfs, ynn)) :
    ∀ d i n, i + d = m → d < n → wY_loadBytes_30 post (nI m) t yca yli ytt ypf ybs ybi (nI z) ypr yic yne yie yde ynn n (nI i) ysn yss ybu yst yse yps ypn (ar_I (ar_bw b z (tx_b t) i)) yfa yfo yfs := by
  intro d
  induction d with
  | zero =>
    intro i n h1 h2
    obtain ⟨n, rfl⟩ : ∃ m, n = m + 1 := ⟨n - 1, by omega⟩
    have e : i = m := by omega
    subst e
    refine br_t (nI_le (Nat.le_refl _) (by omega)) ?_
    by_cases z0 : i = 0
    · rw [if_pos z0] at h
      exact br_t (by rw [z0]; rfl) h
    · rw [if_neg z0] at h
      refine br_f (fun e => z0 ((nI_i0 (by omega)).mp e)) ?_
      rw [nI_add z i]
      exact h
  | succ d ih =>
    intro i n h1 h2
    obtain ⟨n, rfl⟩ : ∃ m, n = m + 1 := ⟨n - 1, by omega⟩
    have K := ih (i + 1) n (by omega) (by omega)
    rw [← ar_bS] at K
    exact br_f (nI_ge (by omega) (by omega)) (y_byte (by omega) ⟨pk_in (z + i) 255 (by omega) (nI_add z i), nm_r (ar_st (z + i) (tx_b t i) (nI_add z i)) (nm_r (nI_1 i) K)⟩)
theorem i_vc_loadBytes {k : Nat} {u : SX} {v : SY} (I : i_Rel k u v) (hk : k + 5 ≤ 2562) (v1 : Int32) (a1 : Int64) : wpX_loadBytes (fun r u' => wpY_loadBytes (fun r' v' => r' = r ∧ i_Rel (k + 5) u' v') v v1 a1) u v1 a1 := by
  refine I (fun u v => wpX_loadBytes (fun r u' => wpY_loadBytes (fun r' v' => r' = r ∧ i_Rel (k + 5) u' v') v v1 a1) u v1 a1) ?_
  intro cap lim bs bi pc z ic xtt xpf xwe xda xpr xrp xne yne yie yde A D sz B C st se PS PN P b fo xs xty xcl xds xdl xnm xns xna xnp yfs xtl xva yfa hsl hbl hin hit
  have R : i_Rel (k + 5) (nI cap, nI lim, xtt, xpf, nI bs, nI bi, xwe, xda, nI pc, nI z, xpr, nI ic, xrp, xne, ar_I A, ar_I sz, ar_I B, ar_I st, ar_I se, ar_I P, ar_I b, xs, xty, xcl, xtl, xds, xdl, xva, xnm, xns, xna, xnp) (nI cap, nI lim, xtt, xpf, nI bs, nI bi, nI z, xpr, nI ic, yne, yie, yde, ar_I D, ar_I sz, ar_I C, ar_I st, ar_I se, ar_I PS, ar_I PN, ar_I b, yfa, ar_I fo, yfs, 32768) := rl_mk hsl hbl hin hit
  have hc : z ≤ 255 := hin.1
  refine lk_use (WX := fun post => wpX_loadBytes post (nI cap, nI lim, xtt, xpf, nI bs, nI bi, xwe, xda, nI pc, nI z, xpr, nI ic, xrp, xne, ar_I A, ar_I sz, ar_I B, ar_I st, ar_I se, ar_I P, ar_I b, xs, xty, xcl, xtl, xds, xdl, xva, xnm, xns, xna, xnp) v1 a1) (WY := fun post => wpY_loadBytes post (nI cap, nI lim, xtt, xpf, nI bs, nI bi, nI z, xpr, nI ic, yne, yie, yde, ar_I D, ar_I sz, ar_I C, ar_I st, ar_I se, ar_I PS, ar_I PN, ar_I b, yfa, ar_I fo, yfs, 32768) v1 a1) ?_
  rcases pk_ix v1 (n := 9) (by omega) with h | h | ⟨m, hm, rfl⟩
  · exact ⟨-1, _, _, R, fun post hp => br_t h hp, fun post hp => br_t h hp⟩
  · have h' := ge_n h (by omega)
    have h8 : ¬ v1 ≤ 8 := fun y => by
      rw [Int32.le_iff_toInt_le] at h y
      rw [nI_toInt (by decide)] at h
      rw [show (8 : Int32).toInt = 8 from by decide] at y
      omega
    exact ⟨-1, _, _, R, fun post hp => br_f h'.1 (br_f h8 hp), fun post hp => br_f h'.1 (br_f h8 hp)⟩
  · have p1 : ¬ nI m < 0 := nI_pos (by omega)
    have p2 : nI m ≤ 8 := nI_le (b := 8) (by omega) (by decide)
    by_cases hz : z + m ≤ 255
    · have p3 : nI z + nI m ≤ 255 := by rw [nI_add]; exact nI_le (b := 255) hz (by decide)
      have R2 : i_Rel (k + 5) (nI cap, nI lim, xtt, xpf, nI bs, nI bi, xwe, xda, nI pc, nI (if m = 0 then 0 else z + m), 0, nI 0, xrp, xne, ar_I A, ar_I sz, ar_I B, ar_I st, ar_I se, ar_I P, ar_I (ar_bw b z (tx_b a1) m), xs, xty, xcl, xtl, xds, xdl, xva, xnm, xns, xna, xnp) (nI cap, nI lim, xtt, xpf, nI bs, nI bi, nI (if m = 0 then 0 else z + m), 0, nI 0, yne, yie, yde, ar_I D, ar_I sz, ar_I C, ar_I st, ar_I se, ar_I PS, ar_I PN, ar_I (ar_bw b z (tx_b a1) m), yfa, ar_I fo, yfs, 32768) := rl_mk hsl hbl ⟨by split <;> omega, by_w hin.2.1 (fun i _ => tx_lt), by decide⟩ it_0
      refine ⟨nI (if m = 0 then 0 else z + m), _, _, R2, fun post hp => br_f p1 (br_t p2 (br_t p3 ?_)), fun post hp => br_f p1 (br_t p2 (br_t p3 ⟨m + 1, ?_⟩))⟩
      · by_cases z0 : m = 0
        · subst z0
          rw [if_pos rfl, ar_b0] at hp
          exact br_t rfl hp
        · rw [if_neg z0] at hp
          have K := x_lby (xpr := xpr) (xic := nI ic) (b := b) hz (by omega) hp m 0 (m + 1) (by omega) (by omega)
          rw [ar_b0] at K
          exact br_f (fun e => z0 ((nI_i0 (by omega)).mp e)) ⟨m + 1, K⟩
      · have K := y_lby (ypr := xpr) (yic := nI ic) (b := b) hz (by omega) hp m 0 (m + 1) (by omega) (by omega)
        rw [ar_b0] at K
        exact K
    · have p3 : ¬ nI z + nI m ≤ 255 := by rw [nI_add]; exact nI_ge (a := 255) (by omega) (by omega)
      exact ⟨-5, _, _, R, fun post hp => br_f p1 (br_t p2 (br_f p3 hp)), fun post hp => br_f p1 (br_t p2 (br_f p3 hp))⟩
end SIMPLE
end
section
/-! measure, dropLast, begin, the constructors, addLabel -/
section MORE
variable {xca xli xtt xpf xbs xbi xwe xda xpc xis xpr xic xrp xne : Int32} {xsn xss xbu xst xse xpl xin xs xty xcl : Nat → Int32} {xtl : Nat → Int64} {xds xdl : Nat → Int32} {xva : Nat → Int64} {xnm xns xna xnp : Nat → Int32}
variable {yca yli ytt ypf ybs ybi yis ypr yic yne yie yde : Int32} {ysn yss ybu yst yse yps ypn yin : Nat → Int32} {yfa : Nat → Int64} {yfo yfs : Nat → Int32} {ynn : Nat}
variable {A D sz B C st se PS PN P b fo : Nat → Nat}
theorem i_vc_measure {k : Nat} {u : SX} {v : SY} (I : i_Rel k u v) (hk : k + 5 ≤ 2562) (v1 : Int32) : wpX_measure (fun r => wpY_measure (fun r' => r' = r ∧ i_Rel (k + 5) u v) v v1) u v1 := by
  refine I (fun u v => wpX_measure (fun r => wpY_measure (fun r' => r' = r ∧ i_Rel (k + 5) u v) v v1) u v1) ?_
  intro cap lim bs bi pc z ic xtt xpf xwe xda xpr xrp xne yne yie yde A D sz B C st se PS PN P b fo xs xty xcl xds xdl xnm xns xna xnp yfs xtl xva yfa hsl hbl hin hit
  have R : i_Rel (k + 5) (nI cap, nI lim, xtt, xpf, nI bs, nI bi, xwe, xda, nI pc, nI z, xpr, nI ic, xrp, xne, ar_I A, ar_I sz, ar_I B, ar_I st, ar_I se, ar_I P, ar_I b, xs, xty, xcl, xtl, xds, xdl, xva, xnm, xns, xna, xnp) (nI cap, nI lim, xtt, xpf, nI bs, nI bi, nI z, xpr, nI ic, yne, yie, yde, ar_I D, ar_I sz, ar_I C, ar_I st, ar_I se, ar_I PS, ar_I PN, ar_I b, yfa, ar_I fo, yfs, 32768) := rl_mk hsl hbl hin hit
  have hb : bi ≤ 16 := by obtain ⟨_, _, _, h4, _, h6, _⟩ := hbl; omega
  rcases pk_ix v1 (n := 10) (by decide) with h | h | ⟨j, hj, rfl⟩
  · have hn : ∀ c : Int32, ¬ c < 0 → ¬ v1 = c := fun c hc e => hc (e ▸ h)
    exact br_t h (br_f (hn 0 (by decide)) (br_f (hn 1 (by decide)) (br_f (hn 2 (by decide)) (br_f (hn 3 (by decide)) (br_f (hn 4 (by decide)) (br_f (hn 5 (by decide)) (br_f (hn 6 (by decide)) (br_f (hn 7 (by decide)) (br_f (hn 8 (by decide)) (br_f (hn 9 (by decide)) ⟨rfl, R⟩))))))))))
  · have h' := ge_n h (by decide)
    have h9 : (9 : Int32) < v1 := by
      rw [Int32.le_iff_toInt_le, nI_toInt (by decide)] at h
      rw [Int32.lt_iff_toInt_lt, show (9 : Int32).toInt = 9 from by decide]
      omega
    have hn : ∀ c : Int32, ¬ (9 : Int32) < c → ¬ v1 = c := fun c hc e => hc (e ▸ h9)
    exact br_f h'.1 (br_t h9 (br_f (hn 0 (by decide)) (br_f (hn 1 (by decide)) (br_f (hn 2 (by decide)) (br_f (hn 3 (by decide)) (br_f (hn 4 (by decide)) (br_f (hn 5 (by decide)) (br_f (hn 6 (by decide)) (br_f (hn 7 (by decide)) (br_f (hn 8 (by decide)) (br_f (hn 9 (by decide)) ⟨rfl, R⟩)))))))))))
  · refine br_f (nI_pos (by omega)) (br_f (nI_nlt (a := 9) (by omega) (by decide)) ?_)
    match j, hj with
    | 0, _ => exact br_t (by decide) (br_t (by decide) ⟨rfl, R⟩)
    | 1, _ => exact br_f (by decide) (br_t (by decide) (br_f (by decide) (br_t (by decide) ⟨rfl, R⟩)))
    | 2, _ =>
      refine br_f (by decide) (br_f (by decide) (br_t (by decide) ?_))
      by_cases z0 : bi = 0
      · subst z0
        exact br_t rfl (br_f (by decide) (br_f (by decide) (br_t (by decide) (br_t (by decide) ⟨by decide, R⟩))))
      · have i16 : vp_in (nI bi - 1) 16 := pk_in (bi - 1) 16 (by omega) (ix_s (by omega))
        exact br_f (fun e => z0 ((nI_i0 (by omega)).mp e)) ⟨i16, br_f (by decide) (br_f (by decide) (br_t (by decide) (br_f (nI_nle (by omega) (by omega)) ⟨i16, rfl, R⟩)))⟩
    | 3, _ => exact br_f (by decide) (br_f (by decide) (br_f (by decide) (br_t (by decide) (br_f (by decide) (br_f (by decide) (br_f (by decide) (br_t (by decide) ⟨rfl, R⟩)))))))
    | 4, _ => exact br_f (by decide) (br_f (by decide) (br_f (by decide) (br_f (by decide) (br_t (by decide) (br_f (by decide) (br_f (by decide) (br_f (by decide) (br_f (by decide) (br_t (by decide) ⟨rfl, R⟩)))))))))
    | 5, _ => exact br_f (by decide) (br_f (by decide) (br_f (by decide) (br_f (by decide) (br_f (by decide) (br_t (by decide) (br_f (by decide) (br_f (by decide) (br_f (by decide) (br_f (by decide) (br_f (by decide) (br_t (by decide) ⟨rfl, R⟩)))))))))))
    | 6, _ => exact br_f (by decide) (br_f (by decide) (br_f (by decide) (br_f (by decide) (br_f (by decide) (br_f (by decide) (br_t (by decide) (br_f (by decide) (br_f (by decide) (br_f (by decide) (br_f (by decide) (br_f (by decide) (br_f (by decide) (br_t (by decide) ⟨rfl, R⟩)))))))))))))
    | 7, _ => exact br_f (by decide) (br_f (by decide) (br_f (by decide) (br_f (by decide) (br_f (by decide) (br_f (by decide) (br_f (by decide) (br_t (by decide) (br_f (by decide) (br_f (by decide) (br_f (by decide) (br_f (by decide) (br_f (by decide) (br_f (by decide) (br_f (by decide) (br_t (by decide) ⟨rfl, R⟩)))))))))))))))
    | 8, _ => exact br_f (by decide) (br_f (by decide) (br_f (by decide) (br_f (by decide) (br_f (by decide) (br_f (by decide) (br_f (by decide) (br_f (by decide) (br_t (by decide) (br_f (by decide) (br_f (by decide) (br_f (by decide) (br_f (by decide) (br_f (by decide) (br_f (by decide) (br_f (by decide) (br_f (by decide) (br_t (by decide) ⟨rfl, R⟩)))))))))))))))))
    | 9, _ => exact br_f (by decide) (br_f (by decide) (br_f (by decide) (br_f (by decide) (br_f (by decide) (br_f (by decide) (br_f (by decide) (br_f (by decide) (br_f (by decide) (br_t (by decide) (br_f (by decide) (br_f (by decide) (br_f (by decide) (br_f (by decide) (br_f (by decide) (br_f (by decide) (br_f (by decide) (br_f (by decide) (br_f (by decide) (br_t (by decide) ⟨rfl, R⟩)))))))))))))))))))
theorem i_vc_dropLast {k : Nat} {u : SX} {v : SY} (I : i_Rel k u v) (hk : k + 5 ≤ 2562) : wpX_dropLast (fun r u' => wpY_dropLast (fun r' v' => r' = r ∧ i_Rel (k + 5) u' v') v) u := by
  refine I (fun u v => wpX_dropLast (fun r u' => wpY_dropLast (fun r' v' => r' = r ∧ i_Rel (k + 5) u' v') v) u) ?_
  intro cap lim bs bi pc z ic xtt xpf xwe xda xpr xrp xne yne yie yde A D sz B C st se PS PN P b fo xs xty xcl xds xdl xnm xns xna xnp yfs xtl xva yfa hsl hbl hin hit
  refine lk_use (WX := fun post => wpX_dropLast post (nI cap, nI lim, xtt, xpf, nI bs, nI bi, xwe, xda, nI pc, nI z, xpr, nI ic, xrp, xne, ar_I A, ar_I sz, ar_I B, ar_I st, ar_I se, ar_I P, ar_I b, xs, xty, xcl, xtl, xds, xdl, xva, xnm, xns, xna, xnp)) (WY := fun post => wpY_dropLast post (nI cap, nI lim, xtt, xpf, nI bs, nI bi, nI z, xpr, nI ic, yne, yie, yde, ar_I D, ar_I sz, ar_I C, ar_I st, ar_I se, ar_I PS, ar_I PN, ar_I b, yfa, ar_I fo, yfs, 32768)) ?_
  have hbl' := hbl
  obtain ⟨h1, h2, h3, h4, h5, h6, h7, h8, h10, h11⟩ := hbl'
  have h7' := h7
  obtain ⟨w1, w2, w3, w4, w5, w6, w7, w8⟩ := h7'
  cases bi with
  | zero => exact ⟨-6, _, _, rl_mk hsl hbl hin hit, fun post hp => br_t rfl hp, fun post hp => br_t rfl hp⟩
  | succ c =>
    obtain ⟨s1, s2, s3, s4⟩ := h10 c (by omega)
    have hpc := pp_c w4 w6
    obtain ⟨q, q1, q2, q3, q4⟩ := x_fg (xca := nI cap) (xli := nI lim) (xtt := xtt) (xpf := xpf) (xbs := nI (st c)) (xbi := nI c) (xwe := xwe) (xda := xda) (xis := nI z) (xpr := xpr) (xic := nI ic) (xrp := xrp) (xne := xne) (xsn := ar_I A) (xss := ar_I sz) (xbu := ar_I (ar_u B (5 + 2 * se c) (B (5 + 2 * se c) - 1))) (xst := ar_I st) (xse := ar_I se) (xin := ar_I b) (xs := xs) (xty := xty) (xcl := xcl) (xtl := xtl) (xds := xds) (xdl := xdl) (xva := xva) (xnm := xnm) (xns := xns) (xna := xna) (xnp := xnp) (P := P) (E := st c) (pc := pc) (by omega) (by omega) (fun i hi => by have := (w4.1 i hi).2.1; omega) (fun i j hi hj => by have := w4.2.1 i j hi hj; omega)
    have hd := bl_drop hbl q1 q2 q3
    have e0 : ¬ nI (c + 1) = 0 := fun e => by have := (nI_i0 (by omega)).mp e; omega
    have i16 : vp_in (nI c) 16 := vp_in_nI (by omega) (by decide)
    have i5 : vp_in (5 + 2 * nI (se c)) 512 := pk_in (5 + 2 * se c) 512 (by omega) (e5_ _)
    have cn1 : 1 ≤ B (5 + 2 * se c) := by
      rw [h8 (se c) (by omega)]
      show 1 ≤ cn_ se (se c) c + (if se c = se c then 1 else 0)
      rw [if_pos rfl]
      omega
    have cn2 : 1 ≤ C (5 + 2 * se c) := by rw [bl_ag hbl _ (by omega)]; exact cn1
    refine ⟨nI (st c), (nI cap, nI lim, xtt, xpf, nI (st c), nI c, xwe, xda, nI q, nI z, xpr, nI ic, xrp, xne, ar_I A, ar_I sz, ar_I (ar_u B (5 + 2 * se c) (B (5 + 2 * se c) - 1)), ar_I st, ar_I se, ar_I P, ar_I b, xs, xty, xcl, xtl, xds, xdl, xva, xnm, xns, xna, xnp), (nI cap, nI lim, xtt, xpf, nI (st c), nI c, nI z, xpr, nI ic, yne, yie, yde, ar_I D, ar_I sz, ar_I (ar_u C (5 + 2 * se c) (C (5 + 2 * se c) - 1)), ar_I st, ar_I se, ar_I (ct_ PS (st c)), ar_I PN, ar_I b, yfa, ar_I fo, yfs, 32768), rl_mk hsl hd hin hit, fun post hp => ?_, fun post hp => ?_⟩
    · refine br_f e0 (nm_r (nI_pred c) ⟨i16, nm_r (ar_rd c) ⟨i16, nm_r (ar_rd c) ⟨i5, i5, nm_r (ar_st (5 + 2 * se c) (B (5 + 2 * se c) - 1) (e5_ _) ?_) (q4 _ hp)⟩⟩⟩)
      rw [ar_rd (5 + 2 * se c) (e5_ _)]
      exact ix_s cn1
    · have r5 : ar_I se (nI c).toNatClampNeg = nI (se c) := ar_rd c
      refine br_f e0 (nm_r (nI_pred c) ⟨i16, nm_r (ar_rd c) ⟨i16, ?_⟩⟩)
      rw [r5]
      refine ⟨i5, i5, nm_r (ar_st (5 + 2 * se c) (C (5 + 2 * se c) - 1) (e5_ _) ?_) (y_fg (by omega) hp)⟩
      rw [ar_rd (5 + 2 * se c) (e5_ _)]
      exact ix_s cn2
/-! begin -/
def hx_ (B : Nat → Nat) (id fl : Int32) : Nat → Nat := ar_u (ar_u (ar_u (ar_u (ar_bw B 0 (fun _ => 0) 12) 0 (bb_v id 8)) 1 (bb_v id 0)) 2 (bb_v (fl &&& 65023) 8)) 3 (bb_v fl 0)
def hy_ (C : Nat → Nat) (id fl : Int32) : Nat → Nat := ar_bw (p2_ (p2_ C 0 id) 2 (fl &&& 65023)) 4 (fun _ => 0) 8
theorem h_by {id fl : Int32} (h : ∀ j, B j < 256) : ∀ j, hx_ B id fl j < 256 := by_u (by_u (by_u (by_u (by_w h (fun _ _ => by decide)) bb_lt) bb_lt) bb_lt) bb_lt
theorem h_z {id fl : Int32} {j : Nat} (h4 : 4 ≤ j) (h : j < 12) : hx_ B id fl j = 0 := by
  unfold hx_
  rw [ar_un (by omega), ar_un (by omega), ar_un (by omega), ar_un (by omega), ar_bi (by omega) (by omega)]
theorem h_ag {id fl : Int32} {j : Nat} (h : j < 12) : hy_ C id fl j = hx_ B id fl j := by
  by_cases h4 : 4 ≤ j
  · rw [h_z h4 h]
    unfold hy_
    rw [ar_bi (by omega) (by omega)]
  · unfold hy_ hx_ p2_
    rw [ar_bo (by omega), bb_vf0]
    rcases (by omega : j = 0 ∨ j = 1 ∨ j = 2 ∨ j = 3) with e | e | e | e <;> subst e <;> rfl
theorem x_bgl {post : Int32 → SX → Prop} {id fl : Int32} (h : post 12 (xca, xli, xtt, xpf, nI 12, nI 0, xwe, xda, nI 0, xis, xpr, xic, xrp, xne, xsn, xss, ar_I (hx_ B id fl), xst, xse, xpl, xin, xs, xty, xcl, xtl, xds, xdl, xva, xnm, xns, xna, xnp)) :
    ∀ d i n, i + d = 12 → d < n → wX_begin_2 post id fl xca xli xtt xpf xbs xbi xwe xda xpc xis xpr xic xrp xne n (nI i) xsn xss (ar_I (ar_bw B 0 (fun _ => 0) i)) xst xse xpl xin xs xty xcl xtl xds xdl xva xnm xns xna xnp := by
  intro d
  induction d with
  | zero =>
    intro i n h1 h2
    obtain ⟨n, rfl⟩ : ∃ m, n = m + 1 := ⟨n - 1, by omega⟩
    have e : i = 12 := by omega
    subst e
    refine br_t (by decide) (nm_r (e' := ar_I (ar_u (ar_bw B 0 (fun _ => 0) 12) 0 (bb_v id 8))) ?_ (nm_r (e' := ar_I (ar_u (ar_u (ar_bw B 0 (fun _ => 0) 12) 0 (bb_v id 8)) 1 (bb_v id 0))) ?_ (nm_r (e' := ar_I (ar_u (ar_u (ar_u (ar_bw B 0 (fun _ => 0) 12) 0 (bb_v id 8)) 1 (bb_v id 0)) 2 (bb_v (fl &&& 65023) 8))) ?_ (nm_r (e' := ar_I (hx_ B id fl)) ?_ h))))
    · rw [bb_s id 8 (by decide), ar_ux]
    · rw [bb_0, ar_ux]
    · rw [bb_253, ar_ux]
    · rw [bb_0, ar_ux]
      rfl
  | succ d ih =>
    intro i n h1 h2
    obtain ⟨n, rfl⟩ : ∃ m, n = m + 1 := ⟨n - 1, by omega⟩
    have K := ih (i + 1) n (by omega) (by omega)
    rw [← ar_bS, Nat.zero_add] at K
    exact br_f (nI_ge (b := 12) (by omega) (by decide)) ⟨vp_in_nI (by omega) (by decide), nm_r (ar_st i 0) (nm_r (nI_1 i) K)⟩
theorem x_begin {post : Int32 → SX → Prop} {id fl : Int32} (h : post 12 (xca, xli, xtt, xpf, nI 12, nI 0, xwe, xda, nI 0, xis, xpr, xic, xrp, xne, xsn, xss, ar_I (hx_ B id fl), xst, xse, xpl, xin, xs, xty, xcl, xtl, xds, xdl, xva, xnm, xns, xna, xnp)) : wpX_begin post (xca, xli, xtt, xpf, xbs, xbi, xwe, xda, xpc, xis, xpr, xic, xrp, xne, xsn, xss, ar_I B, xst, xse, xpl, xin, xs, xty, xcl, xtl, xds, xdl, xva, xnm, xns, xna, xnp) id fl := by
  have K := x_bgl (xbs := xbs) (xbi := xbi) (xpc := xpc) (B := B) h 12 0 13 rfl (by decide)
  rw [ar_b0] at K
  exact ⟨13, K⟩
theorem y_bgl {post : Int32 → SY → Prop} (h : post 12 (yca, yli, ytt, ypf, nI 12, nI 0, yis, ypr, yic, yne, yie, yde, ysn, yss, ar_I (ar_bw C 4 (fun _ => 0) 8), yst, yse, ar_I (ct_ PS 12), ypn, yin, yfa, yfo, yfs, ynn)) :
    ∀ d i n, i + d = 8 → d < n → wY_begin_21 post yca yli ytt ypf ybs ybi yis ypr yic yne yie yde ynn n (nI (4 + i)) ysn yss (ar_I (ar_bw C 4 (fun _ => 0) i)) yst yse (ar_I PS) ypn yin yfa yfo yfs := by
  intro d
  induction d with
  | zero =>
    intro i n h1 h2
    obtain ⟨n, rfl⟩ : ∃ m, n = m + 1 := ⟨n - 1, by omega⟩
    have e : i = 8 := by omega
    subst e
    exact br_t (by decide) (y_fg (bs := 12) (by decide) h)
  | succ d ih =>
    intro i n h1 h2
    obtain ⟨n, rfl⟩ : ∃ m, n = m + 1 := ⟨n - 1, by omega⟩
    have K := ih (i + 1) n (by omega) (by omega)
    rw [← ar_bS] at K
    exact br_f (nI_ge (b := 12) (by omega) (by decide)) ⟨vp_in_nI (by omega) (by decide), nm_r (ar_st (4 + i) 0) (nm_r (nI_1 (4 + i)) K)⟩
theorem y_begin {post : Int32 → SY → Prop} {id fl : Int32} (h : post 12 (yca, yli, ytt, ypf, nI 12, nI 0, yis, ypr, yic, yne, yie, yde, ysn, yss, ar_I (hy_ C id fl), yst, yse, ar_I (ct_ PS 12), ypn, yin, yfa, yfo, yfs, ynn)) : wpY_begin post (yca, yli, ytt, ypf, ybs, ybi, yis, ypr, yic, yne, yie, yde, ysn, yss, ar_I C, yst, yse, ar_I PS, ypn, yin, yfa, yfo, yfs, ynn) id fl := by
  unfold wpY_begin
  refine y_p2 (a := 0) (by decide) ?_
  refine y_p2 (a := 2) (by decide) ?_
  have K := y_bgl (ybs := ybs) (ybi := ybi) (PS := PS) h 8 0 9 rfl (by decide)
  rw [ar_b0] at K
  exact ⟨9, K⟩
theorem i_vc_begin {k : Nat} {u : SX} {v : SY} (I : i_Rel k u v) (hk : k + 5 ≤ 2562) (v1 : Int32) (v2 : Int32) : wpX_begin (fun r u' => wpY_begin (fun r' v' => r' = r ∧ i_Rel (k + 5) u' v') v v1 v2) u v1 v2 := by
  refine I (fun u v => wpX_begin (fun r u' => wpY_begin (fun r' v' => r' = r ∧ i_Rel (k + 5) u' v') v v1 v2) u v1 v2) ?_
  intro cap lim bs bi pc z ic xtt xpf xwe xda xpr xrp xne yne yie yde A D sz B C st se PS PN P b fo xs xty xcl xds xdl xnm xns xna xnp yfs xtl xva yfa hsl hbl hin hit
  refine x_begin (y_begin ⟨rfl, rl_mk hsl (bl_begin hbl (h_by hbl.2.2.2.2.2.2.1.1) (fun j hj => h_ag hj) (fun s hs => h_z (by omega) (by omega))) hin hit⟩)
/-! the constructors -/
theorem x_ini {post : SX → Prop} (h : post (xca, xli, xtt, xpf, nI 12, nI 0, xwe, xda, nI 0, xis, xpr, xic, xrp, xne, ar_I (fun _ => 0), ar_I (ar_bw (fun _ => 0) 0 (fun _ => 1) 4), ar_I (hx_ (fun _ => 0) 0 0), xst, xse, xpl, xin, xs, xty, xcl, xtl, xds, xdl, xva, xnm, xns, xna, xnp)) :
    ∀ d i n, i + d = 4 → d < n → wX_init_180 post n (nI i) xca xli xtt xpf xbs xbi xwe xda xpc xis xpr xic xrp xne (ar_I (fun _ => 0)) (ar_I (ar_bw (fun _ => 0) 0 (fun _ => 1) i)) (ar_I (fun _ => 0)) xst xse xpl xin xs xty xcl xtl xds xdl xva xnm xns xna xnp := by
  intro d
  induction d with
  | zero =>
    intro i n h1 h2
    obtain ⟨n, rfl⟩ : ∃ m, n = m + 1 := ⟨n - 1, by omega⟩
    have e : i = 4 := by omega
    subst e
    exact br_t (by decide) (x_begin h)
  | succ d ih =>
    intro i n h1 h2
    obtain ⟨n, rfl⟩ : ∃ m, n = m + 1 := ⟨n - 1, by omega⟩
    have K := ih (i + 1) n (by omega) (by omega)
    rw [← ar_bS, Nat.zero_add] at K
    refine br_f (nI_ge (b := 4) (by omega) (by decide)) (x_root (by omega) ?_)
    have e : ar_u (fun _ => 0) (64 * i) 0 = (fun _ => 0) := by
      funext j
      by_cases y : j = 64 * i
      · rw [y, ar_us]
      · rw [ar_un y]
    rw [e]
    exact nm_r (nI_1 i) K
theorem y_ini {post : SY → Prop} (h : post (yca, yli, ytt, ypf, nI 12, nI 0, yis, ypr, yic, yne, yie, yde, ysn, ar_I (ar_bw (fun _ => 0) 0 (fun _ => 1) 4), ar_I (hy_ (fun _ => 0) 0 0), yst, yse, ar_I (ct_ (fun _ => 0) 12), ypn, yin, yfa, yfo, yfs, ynn)) :
    ∀ d i n, i + d = 4 → d < n → wY_init_151 post yca yli ytt ypf ybs ybi yis ypr yic yne yie yde ynn n (nI i) ysn (ar_I (ar_bw (fun _ => 0) 0 (fun _ => 1) i)) (ar_I (fun _ => 0)) yst yse (ar_I (fun _ => 0)) ypn yin yfa yfo yfs := by
  intro d
  induction d with
  | zero =>
    intro i n h1 h2
    obtain ⟨n, rfl⟩ : ∃ m, n = m + 1 := ⟨n - 1, by omega⟩
    have e : i = 4 := by omega
    subst e
    exact br_t (by decide) (y_begin h)
  | succ d ih =>
    intro i n h1 h2
    obtain ⟨n, rfl⟩ : ∃ m, n = m + 1 := ⟨n - 1, by omega⟩
    have K := ih (i + 1) n (by omega) (by omega)
    rw [← ar_bS, Nat.zero_add] at K
    exact br_f (nI_ge (b := 4) (by omega) (by decide)) ⟨vp_in_nI (by omega) (by decide), nm_r (ar_st i 1) (nm_r (nI_1 i) K)⟩
/-- what a clamp leaves -/
def cp_ (x lo hi : Int32) (P : Nat) : Prop := (¬ lo ≤ x ∧ lo = nI P) ∨ (lo ≤ x ∧ x ≤ hi ∧ x = nI P) ∨ (lo ≤ x ∧ ¬ x ≤ hi ∧ hi = nI P)
theorem cp_ex (x : Int32) {lo hi : Nat} (h1 : lo ≤ hi) (h2 : hi < 2 ^ 31) : ∃ P, lo ≤ P ∧ P ≤ hi ∧ cp_ x (nI lo) (nI hi) P := by
  by_cases a : nI lo ≤ x
  · by_cases c : x ≤ nI hi
    · obtain ⟨j, hj, rfl⟩ := nI_of (ge_n a (by omega)).1
      rw [nI_leI (by omega) hj] at a
      rw [nI_leI hj h2] at c
      exact ⟨j, a, c, Or.inr (Or.inl ⟨nI_le a hj, nI_le c h2, rfl⟩)⟩
    · exact ⟨hi, h1, Nat.le_refl _, Or.inr (Or.inr ⟨a, c, rfl⟩)⟩
  · exact ⟨lo, Nat.le_refl _, h1, Or.inl ⟨a, rfl⟩⟩
theorem x_clamp {post : Int32 → Prop} {x lo hi : Int32} {P : Nat} (h : cp_ x lo hi P) (hp : post (nI P)) : wpX_clamp post (xca, xli, xtt, xpf, xbs, xbi, xwe, xda, xpc, xis, xpr, xic, xrp, xne, xsn, xss, xbu, xst, xse, xpl, xin, xs, xty, xcl, xtl, xds, xdl, xva, xnm, xns, xna, xnp) x lo hi := by
  rcases h with ⟨h1, h2⟩ | ⟨h1, h2, h3⟩ | ⟨h1, h2, h3⟩
  · exact br_f h1 (by rw [h2]; exact hp)
  · exact br_t h1 (br_t h2 (by rw [h3]; exact hp))
  · exact br_t h1 (br_f h2 (by rw [h3]; exact hp))
theorem y_i121 {post : SY → Prop} {x : Int32} {cap lim : Nat} {z0 : Int32} (hz : z0 = nI cap) (h : cp_ x 2 16 lim) (hp : post (nI cap, nI lim, ytt, ypf, nI 12, nI 0, yis, ypr, yic, yne, yie, yde, ysn, ar_I (ar_bw (fun _ => 0) 0 (fun _ => 1) 4), ar_I (hy_ (fun _ => 0) 0 0), yst, yse, ar_I (ct_ (fun _ => 0) 12), ypn, yin, yfa, yfo, yfs, ynn)) :
    wY_init_121 post x z0 yca yli ytt ypf ybs ybi yis ypr yic yne yie yde ysn (ar_I (fun _ => 0)) (ar_I (fun _ => 0)) yst yse (ar_I (fun _ => 0)) ypn yin yfa yfo yfs ynn := by
  subst hz
  have K := y_ini (ybs := ybs) (ybi := ybi) hp 4 0 5 rfl (by decide)
  rw [ar_b0] at K
  rcases h with ⟨h1, h2⟩ | ⟨h1, h2, h3⟩ | ⟨h1, h2, h3⟩
  · rw [← h2] at K
    exact br_f h1 ⟨5, K⟩
  · rw [← h3] at K
    exact br_t h1 (br_t h2 ⟨5, K⟩)
  · rw [← h3] at K
    exact br_t h1 (br_f h2 ⟨5, K⟩)
theorem i_vc0 (k0 : Int32) (k1 : Int32) : wpX_init (fun u => wpY_init (fun v => i_Rel 2 u v) k0 k1) k0 k1 := by
  obtain ⟨cap, c1, c2, hc⟩ := cp_ex k0 (lo := 32) (hi := 255) (by decide) (by decide)
  obtain ⟨lim, l1, l2, hl⟩ := cp_ex k1 (lo := 2) (hi := 16) (by decide) (by decide)
  have z256 : (0 : Nat) < 256 := by decide
  have z0 : ∀ p, p < 512 → ct_ (fun _ => 0) 12 p = 0 := by
    intro p hp
    by_cases y : p < 12
    · rw [ct_lo y]
    · exact ct_hi (by omega) hp
  have hbl : bl_ cap lim 12 0 (hx_ (fun _ => 0) 0 0) (hy_ (fun _ => 0) 0 0) (fun _ => 0) (fun _ => 0) (ct_ (fun _ => 0) 12) (fun _ => 0) (fun _ => 0) 0 :=
    ⟨c1, c2, l1, l2, by omega, by omega, ⟨h_by (fun _ => z256), fun _ j hj _ => h_ag hj, fun p hp hn => absurd (z0 p (by omega)) hn, ⟨fun i hi => absurd hi (Nat.not_lt_zero i), fun i j _ hj => absurd hj (Nat.not_lt_zero j), fun p hp hn => absurd (z0 p hp) hn⟩, Or.inl rfl, by decide, by decide, fun _ => z256⟩, fun s hs => h_z (by omega) (by omega), fun i hi => absurd hi (Nat.not_lt_zero i), fun i j _ hj => absurd hj (Nat.not_lt_zero j)⟩
  have hsl : sl_ (fun _ => 0) (fun _ => 0) (ar_bw (fun _ => 0) 0 (fun _ => 1) 4) := ⟨fun _ => z256, fun s hs => by
    rw [ar_bi (by omega) (by omega)]
    exact ⟨by decide, by decide, fun _ _ => rfl, wn_i0 rfl⟩⟩
  have R : i_Rel 2 (nI cap, nI lim, 0, 0, nI 12, nI 0, 0, 0, nI 0, nI 0, 0, nI 0, 0, 0, ar_I (fun _ => 0), ar_I (ar_bw (fun _ => 0) 0 (fun _ => 1) 4), ar_I (hx_ (fun _ => 0) 0 0), ar_I (fun _ => 0), ar_I (fun _ => 0), ar_I (fun _ => 0), ar_I (fun _ => 0), (fun _ => 0), (fun _ => 0), (fun _ => 0), (fun _ => 0), (fun _ => 0), (fun _ => 0), (fun _ => 0), (fun _ => 0), (fun _ => 0), (fun _ => 0), (fun _ => 0))
      (nI cap, nI lim, 0, 0, nI 12, nI 0, nI 0, 0, nI 0, 0, 0, 0, ar_I (fun _ => 0), ar_I (ar_bw (fun _ => 0) 0 (fun _ => 1) 4), ar_I (hy_ (fun _ => 0) 0 0), ar_I (fun _ => 0), ar_I (fun _ => 0), ar_I (ct_ (fun _ => 0) 12), ar_I (fun _ => 0), ar_I (fun _ => 0), (fun _ => 0), ar_I (fun _ => 0), (fun _ => 0), 32768) :=
    rl_mk (k := 2) hsl hbl ⟨by decide, fun _ => z256, by decide⟩ it_0
  unfold wpX_init
  refine x_clamp hc (x_clamp hl ⟨5, ?_⟩)
  have KY : wpY_init (fun v => i_Rel 2 (nI cap, nI lim, 0, 0, nI 12, nI 0, 0, 0, nI 0, nI 0, 0, nI 0, 0, 0, ar_I (fun _ => 0), ar_I (ar_bw (fun _ => 0) 0 (fun _ => 1) 4), ar_I (hx_ (fun _ => 0) 0 0), ar_I (fun _ => 0), ar_I (fun _ => 0), ar_I (fun _ => 0), ar_I (fun _ => 0), (fun _ => 0), (fun _ => 0), (fun _ => 0), (fun _ => 0), (fun _ => 0), (fun _ => 0), (fun _ => 0), (fun _ => 0), (fun _ => 0), (fun _ => 0), (fun _ => 0)) v) k0 k1 := by
    refine And.intro (by decide) (nm_r (e' := 32768) (by decide) (And.intro (Nat.le_refl _) ?_))
    rcases hc with ⟨h1, h2⟩ | ⟨h1, h2, h3⟩ | ⟨h1, h2, h3⟩
    · exact br_f h1 (y_i121 h2 hl R)
    · exact br_t h1 (br_t h2 (y_i121 h3 hl R))
    · exact br_t h1 (br_f h2 (y_i121 h3 hl R))
  have K := x_ini (post := fun u => wpY_init (fun v => i_Rel 2 u v) k0 k1) (xbs := 0) (xbi := 0) (xpc := 0) KY 4 0 5 rfl (by decide)
  rw [ar_b0] at K
  exact K
end MORE
end
section
/-! addLabel -/
section LABEL
variable {xca xli xtt xpf xbs xbi xwe xda xpc xis xpr xic xrp xne : Int32} {xsn xss xbu xst xse xpl xin xs xty xcl : Nat → Int32} {xtl : Nat → Int64} {xds xdl : Nat → Int32} {xva : Nat → Int64} {xnm xns xna xnp : Nat → Int32}
variable {yca yli ytt ypf ybs ybi yis ypr yic yne yie yde : Int32} {ysn yss ybu yst yse yps ypn yin : Nat → Int32} {yfa : Nat → Int64} {yfo yfs : Nat → Int32} {ynn : Nat}
variable {A D sz B C st se PS PN P b fo : Nat → Nat}
theorem x_71 {post : Int32 → SX → Prop} {t : Int64} {s m a L : Nat} (hs : s < 4) (hL : L ≤ 8) (ha : a + 1 + L < 256) (hm : m ≤ 64) (h : post (nI (m + 1 + L)) (xca, xli, xtt, xpf, xbs, xbi, xwe, xda, xpc, xis, xpr, xic, xrp, xne, ar_I (ar_u (ar_bw A (a + 1) (tx_b t) L) (a + 1 + L) 0), ar_I (ar_u sz s (m + 1 + L)), xbu, xst, xse, xpl, xin, xs, xty, xcl, xtl, xds, xdl, xva, xnm, xns, xna, xnp)) :
    ∀ d i n, i + d = L → d < n → wX_addLabel_71 post (nI s) t (nI L) (nI m) (nI a) xca xli xtt xpf xbs xbi xwe xda xpc xis xpr xic xrp xne n (nI i) (ar_I (ar_bw A (a + 1) (tx_b t) i)) (ar_I sz) xbu xst xse xpl xin xs xty xcl xtl xds xdl xva xnm xns xna xnp := by
  intro d
  induction d with
  | zero =>
    intro i n h1 h2
    obtain ⟨n, rfl⟩ : ∃ m, n = m + 1 := ⟨n - 1, by omega⟩
    have e : i = L := by omega
    subst e
    have i4 : vp_in (nI s) 4 := vp_in_nI hs (by decide)
    refine br_t (nI_le (Nat.le_refl _) (by omega)) ⟨pk_in (a + 1 + i) 256 (by omega) (ix_q a i), nm_r (ar_st (a + 1 + i) 0 (ix_q a i)) ⟨i4, nm_r (ar_st s (m + 1 + i) rfl (ix_q m i)) ⟨i4, ?_⟩⟩⟩
    rw [ar_rd s, ar_us]
    exact h
  | succ d ih =>
    intro i n h1 h2
    obtain ⟨n, rfl⟩ : ∃ m, n = m + 1 := ⟨n - 1, by omega⟩
    have K := ih (i + 1) n (by omega) (by omega)
    rw [← ar_bS] at K
    exact br_f (nI_ge (by omega) (by omega)) (x_byte (by omega) ⟨pk_in (a + 1 + i) 256 (by omega) (ix_q a i), nm_r (ar_st (a + 1 + i) (tx_b t i) (ix_q a i)) (nm_r (nI_1 i) K)⟩)
theorem y_72 {post : Int32 → SY → Prop} {t : Int64} {s m a L : Nat} (hs : s < 4) (hL : L ≤ 8) (ha : a + 1 + L < 256) (hm : m ≤ 64) (hz : sz s = m) (h : post (nI (m + 1 + L)) (yca, yli, ytt, ypf, ybs, ybi, yis, ypr, yic, yne, yie, yde, ar_I (ar_u (ar_bw D (a + 1) (tx_b t) L) (a + 1 + L) 0), ar_I (ar_u sz s (m + 1 + L)), ybu, yst, yse, yps, ypn, yin, yfa, yfo, yfs, ynn)) :
    ∀ d i n, i + d = L → d < n → wY_addLabel_72 post (nI s) t (nI L) (nI a) yca yli ytt ypf ybs ybi yis ypr yic yne yie yde ynn n (nI i) (ar_I (ar_bw D (a + 1) (tx_b t) i)) (ar_I sz) ybu yst yse yps ypn yin yfa yfo yfs := by
  intro d
  induction d with
  | zero =>
    intro i n h1 h2
    obtain ⟨n, rfl⟩ : ∃ m, n = m + 1 := ⟨n - 1, by omega⟩
    have e : i = L := by omega
    subst e
    have i4 : vp_in (nI s) 4 := vp_in_nI hs (by decide)
    refine br_t (nI_le (Nat.le_refl _) (by omega)) ⟨pk_in (a + 1 + i) 256 (by omega) (ix_q a i), nm_r (ar_st (a + 1 + i) 0 (ix_q a i)) ⟨i4, i4, nm_r (ar_st s (m + 1 + i) rfl (by rw [ar_rd s, hz]; exact ix_p m i)) ⟨i4, ?_⟩⟩⟩
    rw [ar_rd s, ar_us]
    exact h
  | succ d ih =>
    intro i n h1 h2
    obtain ⟨n, rfl⟩ : ∃ m, n = m + 1 := ⟨n - 1, by omega⟩
    have K := ih (i + 1) n (by omega) (by omega)
    rw [← ar_bS] at K
    exact br_f (nI_ge (by omega) (by omega)) (y_byte (by omega) ⟨pk_in (a + 1 + i) 256 (by omega) (ix_q a i), nm_r (ar_st (a + 1 + i) (tx_b t i) (ix_q a i)) (nm_r (nI_1 i) K)⟩)
def al_ (A : Nat → Nat) (a L : Nat) (t : Int64) : Nat → Nat := ar_u (ar_bw (ar_u A a L) (a + 1) (tx_b t) L) (a + 1 + L) 0
theorem al_o {t : Int64} {a L j : Nat} (h : j < a ∨ a + 1 + L < j) : al_ A a L t j = A j := by
  unfold al_
  rw [ar_un (by omega), ar_bo (by omega), ar_un (by omega)]
theorem al_a {t : Int64} {a L : Nat} : al_ A a L t a = L := by
  unfold al_
  rw [ar_un (by omega), ar_bo (by omega), ar_us]
theorem al_z {t : Int64} {a L : Nat} : al_ A a L t (a + 1 + L) = 0 := ar_us
theorem al_e {t : Int64} {a L j : Nat} (h1 : a ≤ j) (h2 : j ≤ a + 1 + L) : al_ A a L t j = al_ D a L t j := by
  by_cases z : j = a
  · rw [z, al_a, al_a]
  · by_cases y : j = a + 1 + L
    · rw [y, al_z, al_z]
    · unfold al_
      rw [ar_un y, ar_un y, ar_bi (by omega) (by omega), ar_bi (by omega) (by omega)]
theorem al_by {t : Int64} {a L : Nat} (h : ∀ j, A j < 256) (hL : L < 256) : ∀ j, al_ A a L t j < 256 := by_u (by_w (by_u h hL) (fun _ _ => tx_lt)) (by decide)
theorem sl_al {t : Int64} {s L : Nat} (h : sl_ A D sz) (hs : s < 4) (hL1 : 1 ≤ L) (hL : L ≤ 8) (hz : sz s + 1 + L ≤ 64) : sl_ (al_ A (64 * s + sz s - 1) L t) (al_ D (64 * s + sz s - 1) L t) (ar_u sz s (sz s + 1 + L)) := by
  obtain ⟨z1, z2, z3, z4⟩ := h.2 s hs
  refine sl_up h (al_by h.1 (by omega)) (fun j hj => al_o (by omega)) (fun j hj => al_o (by omega)) hz (fun j hj => ?_) ?_
  · by_cases y : j < sz s - 1
    · rw [al_o (by omega), al_o (by omega)]
      exact z3 j (by omega)
    · exact al_e (by omega) (by omega)
  · obtain ⟨n, z5⟩ := z4
    have := wn_ap (C := al_ A (64 * s + sz s - 1) L t) (L := L) hL1 (by omega) al_a (by rw [show 64 * s + sz s + L = 64 * s + sz s - 1 + 1 + L by omega]; exact al_z) n (64 * s) z5 (fun j h1 h2 => al_o (by omega))
    rw [show 64 * s + sz s + L + 1 = 64 * s + (sz s + 1 + L) by omega] at this
    exact this
theorem i_vc_addLabel {k : Nat} {u : SX} {v : SY} (I : i_Rel k u v) (hk : k + 5 ≤ 2562) (v1 : Int32) (a1 : Int64) : wpX_addLabel (fun r u' => wpY_addLabel (fun r' v' => r' = r ∧ i_Rel (k + 5) u' v') v v1 a1) u v1 a1 := by
  refine I (fun u v => wpX_addLabel (fun r u' => wpY_addLabel (fun r' v' => r' = r ∧ i_Rel (k + 5) u' v') v v1 a1) u v1 a1) ?_
  intro cap lim bs bi pc z ic xtt xpf xwe xda xpr xrp xne yne yie yde A D sz B C st se PS PN P b fo xs xty xcl xds xdl xnm xns xna xnp yfs xtl xva yfa hsl hbl hin hit
  have R : i_Rel (k + 5) (nI cap, nI lim, xtt, xpf, nI bs, nI bi, xwe, xda, nI pc, nI z, xpr, nI ic, xrp, xne, ar_I A, ar_I sz, ar_I B, ar_I st, ar_I se, ar_I P, ar_I b, xs, xty, xcl, xtl, xds, xdl, xva, xnm, xns, xna, xnp) (nI cap, nI lim, xtt, xpf, nI bs, nI bi, nI z, xpr, nI ic, yne, yie, yde, ar_I D, ar_I sz, ar_I C, ar_I st, ar_I se, ar_I PS, ar_I PN, ar_I b, yfa, ar_I fo, yfs, 32768) := rl_mk hsl hbl hin hit
  refine lk_use (WX := fun post => wpX_addLabel post (nI cap, nI lim, xtt, xpf, nI bs, nI bi, xwe, xda, nI pc, nI z, xpr, nI ic, xrp, xne, ar_I A, ar_I sz, ar_I B, ar_I st, ar_I se, ar_I P, ar_I b, xs, xty, xcl, xtl, xds, xdl, xva, xnm, xns, xna, xnp) v1 a1) (WY := fun post => wpY_addLabel post (nI cap, nI lim, xtt, xpf, nI bs, nI bi, nI z, xpr, nI ic, yne, yie, yde, ar_I D, ar_I sz, ar_I C, ar_I st, ar_I se, ar_I PS, ar_I PN, ar_I b, yfa, ar_I fo, yfs, 32768) v1 a1) ?_
  rcases sl_cs v1 with h | ⟨s, hs, rfl⟩
  · refine ⟨-2, _, _, R, fun post hp => ?_, fun post hp => ns_br h hp⟩
    unfold wpX_addLabel
    exact x_nslot h (br_t rfl hp)
  · obtain ⟨z1, z2, z3, z4⟩ := hsl.2 s hs
    obtain ⟨L, hL, hX, hY⟩ := tl_ex a1
    have i4 : vp_in (nI s) 4 := vp_in_nI hs (by decide)
    by_cases L0 : L = 0
    · subst L0
      refine ⟨-1, _, _, R, fun post hp => ?_, fun post hp => sl_br hs ?_⟩
      · unfold wpX_addLabel
        refine x_slot hs (br_f (by decide) ?_)
        apply hX
        exact br_t rfl hp
      · apply hY
        exact br_t rfl hp
    · have n0 : ¬ nI L = 0 := fun e => L0 ((nI_i0 (by omega)).mp e)
      by_cases hz : sz s + 1 + L ≤ 64
      · have p6 : nI (sz s) + 1 + nI L ≤ 64 := by rw [ix_q]; exact nI_le (b := 64) hz (by decide)
        have e6 : nI s * 64 + nI (sz s) - 1 = nI (64 * s + sz s - 1) := by rw [ix_b]; exact ix_s (by omega)
        have i6 : vp_in (nI (64 * s + sz s - 1)) 256 := vp_in_nI (by omega) (by decide)
        refine ⟨nI (sz s + 1 + L), (nI cap, nI lim, xtt, xpf, nI bs, nI bi, xwe, xda, nI pc, nI z, xpr, nI ic, xrp, xne, ar_I (al_ A (64 * s + sz s - 1) L a1), ar_I (ar_u sz s (sz s + 1 + L)), ar_I B, ar_I st, ar_I se, ar_I P, ar_I b, xs, xty, xcl, xtl, xds, xdl, xva, xnm, xns, xna, xnp), (nI cap, nI lim, xtt, xpf, nI bs, nI bi, nI z, xpr, nI ic, yne, yie, yde, ar_I (al_ D (64 * s + sz s - 1) L a1), ar_I (ar_u sz s (sz s + 1 + L)), ar_I C, ar_I st, ar_I se, ar_I PS, ar_I PN, ar_I b, yfa, ar_I fo, yfs, 32768), rl_mk (sl_al hsl hs (by omega) hL hz) hbl hin hit, fun post hp => ?_, fun post hp => sl_br hs ?_⟩
        · unfold wpX_addLabel
          refine x_slot hs (br_f (by decide) ?_)
          apply hX
          have K := x_71 (sz := sz) (t := a1) (A := ar_u A (64 * s + sz s - 1) L) hs hL (by omega) z2 hp L 0 (L + 1) (by omega) (by omega)
          rw [ar_b0] at K
          exact br_f n0 ⟨i4, nm_r (ar_rd s) (br_t p6 (nm_r e6 ⟨i6, nm_r (ar_st (64 * s + sz s - 1) L) ⟨_, K⟩⟩))⟩
        · apply hY
          have K := y_72 (sz := sz) (t := a1) (D := ar_u D (64 * s + sz s - 1) L) hs hL (by omega) z2 rfl hp L 0 (L + 1) (by omega) (by omega)
          rw [ar_b0] at K
          have r4 : ar_I sz (nI s).toNatClampNeg = nI (sz s) := ar_rd s
          refine br_f n0 ⟨i4, ?_⟩
          rw [r4]
          exact br_t p6 ⟨i4, nm_r e6 ⟨i6, nm_r (ar_st (64 * s + sz s - 1) L) ⟨_, K⟩⟩⟩
      · have p6 : ¬ nI (sz s) + 1 + nI L ≤ 64 := by rw [ix_q]; exact nI_ge (a := 64) (by omega) (by omega)
        refine ⟨-5, _, _, R, fun post hp => ?_, fun post hp => sl_br hs ?_⟩
        · unfold wpX_addLabel
          refine x_slot hs (br_f (by decide) ?_)
          apply hX
          exact br_f n0 ⟨i4, nm_r (ar_rd s) (br_f p6 hp)⟩
        · apply hY
          refine br_f n0 ⟨i4, ?_⟩
          rw [ar_rd s]
          exact br_f p6 hp
end LABEL
end
section
/-! closing an item or a record: one outcome -/
section CLOSE
variable {xca xli xtt xpf xbs xbi xwe xda xpc xis xpr xic xrp xne : Int32} {xsn xss xbu xst xse xpl xin xs xty xcl : Nat → Int32} {xtl : Nat → Int64} {xds xdl : Nat → Int32} {xva : Nat → Int64} {xnm xns xna xnp : Nat → Int32}
variable {yca yli ytt ypf ybs ybi yis ypr yic yne yie yde : Int32} {ysn yss ybu yst yse yps ypn yin : Nat → Int32} {yfa : Nat → Int64} {yfo yfs : Nat → Int32} {ynn : Nat}
variable {A D sz B C st se PS PN P b fo B1 C1 PS1 PN1 P1 : Nat → Nat} {cap lim bs bi pc z ic pc1 : Nat}
theorem cl_lock {k w s : Nat} (hsl : sl_ A D sz) (hbl : bl_ cap lim bs bi B C st se PS PN P pc) (hin : ip_ b z ic) (hit : it_ b z lim ic xs xty xcl xtl xds xdl xva xnm xns xna xnp) (hw : wk_ bs pc B C PS PN P 1000 w B1 C1 PS1 PN1 P1 pc1) (hb : bi < lim) (hs : s < 4) :
    lk_ k (fun post => wpX_closeItem post (nI cap, nI lim, xtt, xpf, nI bs, nI bi, nI w, xda, nI pc1, nI z, xpr, nI ic, xrp, xne, ar_I A, ar_I sz, ar_I B1, ar_I st, ar_I se, ar_I P1, ar_I b, xs, xty, xcl, xtl, xds, xdl, xva, xnm, xns, xna, xnp) (nI s)) (fun post => wY_add_230 post (nI s) (nI w) (nI cap) (nI lim) xtt xpf (nI bs) (nI bi) (nI z) xpr (nI ic) yne yie yde (ar_I D) (ar_I sz) (ar_I C1) (ar_I st) (ar_I se) (ar_I PS1) (ar_I PN1) (ar_I b) yfa (ar_I fo) yfs 32768) := by
  have hbl' := hbl
  obtain ⟨h1, h2, h3, h4, h5, h6, h7, h8, h10, h11⟩ := hbl'
  obtain ⟨k1, k2, k3⟩ := hw
  have k1' := k1
  obtain ⟨w1, w2, w3, w4, w5, w6, w7, w8⟩ := k1'
  by_cases hc : w ≤ cap
  · exact ⟨nI w, (nI cap, nI lim, xtt, xpf, nI w, nI (bi + 1), nI w, xda, nI pc1, nI z, xpr, nI ic, xrp, xne, ar_I A, ar_I sz, ar_I (ar_u B1 (5 + 2 * s) (B1 (5 + 2 * s) + 1)), ar_I (ar_u st bi bs), ar_I (ar_u se bi s), ar_I P1, ar_I b, xs, xty, xcl, xtl, xds, xdl, xva, xnm, xns, xna, xnp), (nI cap, nI lim, xtt, xpf, nI w, nI (bi + 1), nI z, xpr, nI ic, yne, yie, yde, ar_I D, ar_I sz, ar_I (ar_u C1 (5 + 2 * s) (C1 (5 + 2 * s) + 1)), ar_I (ar_u st bi bs), ar_I (ar_u se bi s), ar_I PS1, ar_I PN1, ar_I b, yfa, ar_I fo, yfs, 32768), rl_mk hsl (bl_commit hbl k1 k2 hc hb hs k3) hin hit, fun post hp => x_ok hc h2 (by omega) hs hp, fun post hp => y_ok hc h2 (by omega) hs hp⟩
  · have hpc := pp_c w4 w6
    have h12 : 12 ≤ bs := h7.2.2.2.2.2.1
    obtain ⟨q, q1, q2, q3, q4⟩ := x_fg (xca := nI cap) (xli := nI lim) (xtt := xtt) (xpf := xpf) (xbs := nI bs) (xbi := nI bi) (xwe := nI w) (xda := xda) (xis := nI z) (xpr := xpr) (xic := nI ic) (xrp := xrp) (xne := xne) (xsn := ar_I A) (xss := ar_I sz) (xbu := ar_I B1) (xst := ar_I st) (xse := ar_I se) (xin := ar_I b) (xs := xs) (xty := xty) (xcl := xcl) (xtl := xtl) (xds := xds) (xdl := xdl) (xva := xva) (xnm := xnm) (xns := xns) (xna := xna) (xnp := xnp) (P := P1) (E := bs) (pc := pc1) (by omega) (by omega) (fun i hi => by have := (w4.1 i hi).2.1; omega) (fun i j hi hj => by have := w4.2.1 i j hi hj; omega)
    have hd := bl_abort hbl k1 k2 k3 q1 q2 q3
    have hB : B1 2 < 256 := w1 2
    have hC : C1 2 = B1 2 := by rw [k2.1 2 (by omega), k2.2.1 2 (by omega)]; exact bl_ag hbl 2 (by omega)
    have hd2 : bl_ cap lim bs bi (o2_ B1 s) (o2_ C1 s) st se (ct_ PS1 bs) PN1 P1 q := by
      unfold o2_
      by_cases y : s = 3
      · rw [if_pos y, if_pos y]; exact hd
      · rw [if_neg y, if_neg y]; exact bl_or2 hd
    exact ⟨-5, (nI cap, nI lim, xtt, xpf, nI bs, nI bi, nI w, xda, nI q, nI z, xpr, nI ic, xrp, xne, ar_I A, ar_I sz, ar_I (o2_ B1 s), ar_I st, ar_I se, ar_I P1, ar_I b, xs, xty, xcl, xtl, xds, xdl, xva, xnm, xns, xna, xnp), (nI cap, nI lim, xtt, xpf, nI bs, nI bi, nI z, xpr, nI ic, yne, yie, yde, ar_I D, ar_I sz, ar_I (o2_ C1 s), ar_I st, ar_I se, ar_I (ct_ PS1 bs), ar_I PN1, ar_I b, yfa, ar_I fo, yfs, 32768), rl_mk hsl hd2 hin hit, fun post hp => x_no (by omega) (by omega) hs (by omega) q4 hp, fun post hp => y_no (by omega) (by omega) (by omega) hs (by omega) hp⟩
theorem rec_cl {k w s G : Nat} (hsl : sl_ A D sz) (hbl : bl_ cap lim bs bi B C st se PS PN P pc) (hin : ip_ b z ic) (hit : it_ b z lim ic xs xty xcl xtl xds xdl xva xnm xns xna xnp) (hw : wk_ bs pc B C PS PN P G w B1 C1 PS1 PN1 P1 pc1) (hG : G < 512) (hbG : bs ≤ G) (hb : bi < lim) (hs : s < 4) :
    lk_ k (fun post => wpX_closeRecord post (nI cap, nI lim, xtt, xpf, nI bs, nI bi, nI w, nI (G + 2), nI pc1, nI z, xpr, nI ic, xrp, xne, ar_I A, ar_I sz, ar_I B1, ar_I st, ar_I se, ar_I P1, ar_I b, xs, xty, xcl, xtl, xds, xdl, xva, xnm, xns, xna, xnp) (nI s)) (fun post => wY_add_215 post (nI s) (nI w) (nI G) (nI cap) (nI lim) xtt xpf (nI bs) (nI bi) (nI z) xpr (nI ic) yne yie yde (ar_I D) (ar_I sz) (ar_I C1) (ar_I st) (ar_I se) (ar_I PS1) (ar_I PN1) (ar_I b) yfa (ar_I fo) yfs 32768) := by
  have hGw : G + 2 ≤ w ∧ w ≤ 511 := by
    obtain ⟨_, _, _, _, h5, _, h7, _⟩ := hw.1
    rcases h5 with h5 | ⟨h5, _⟩ <;> omega
  obtain ⟨r, u', v', hR, hX, hY⟩ := cl_lock (k := k) (xtt := xtt) (xpf := xpf) (xda := nI (G + 2)) (xpr := xpr) (xrp := xrp) (xne := xne) (xs := xs) (xty := xty) (xcl := xcl) (xtl := xtl) (xds := xds) (xdl := xdl) (xva := xva) (xnm := xnm) (xns := xns) (xna := xna) (xnp := xnp) (yne := yne) (yie := yie) (yde := yde) (yfa := yfa) (yfs := yfs) (fo := fo) hsl hbl hin hit (wk_fill (v := nI (w - (G + 2))) hw (by omega) hbG) hb hs
  obtain ⟨u0, u1, u2, u3, u4, u5, u6, u7, u8, u9, u10, u11, u12, u13, u14, u15, u16, u17, u18, u19, u20, u21, u22, u23, u24, u25, u26, u27, u28, u29, u30, u31⟩ := u'
  obtain ⟨v0, v1, v2, v3, v4, v5, v6, v7, v8, v9, v10, v11, v12, v13, v14, v15, v16, v17, v18, v19, v20, v21, v22, v23⟩ := v'
  refine ⟨r, _, _, hR, fun post hp => ?_, fun post hp => ?_⟩
  · have e1 : nI (G + 2) - 2 = nI G := pk_sub (b := 2) (by omega)
    have e2 : nI (G + 2) - 1 = nI (G + 1) := nI_pred (G + 1)
    exact nm_r (pk_sub (by omega)) ⟨pk_in G 512 (by omega) e1, nm_r (ar_st G (bb_v (nI (w - (G + 2))) 8) e1 (bb_s _ 8 (by decide))) ⟨pk_in (G + 1) 512 (by omega) e2, nm_r (ar_st (G + 1) (bb_v (nI (w - (G + 2))) 0) e2 (bb_0 _)) (hX _ hp)⟩⟩
  · unfold wY_add_215
    have e : nI w - nI G - 2 = nI (w - (G + 2)) := by
      rw [pk_sub (by omega), ← Nat.sub_sub]
      exact pk_sub (b := 2) (by omega)
    rw [e]
    refine y_p2 (by omega) ?_
    exact hY _ hp
end CLOSE
end
section
/-! the four adders -/
section ADD
variable {xca xli xtt xpf xbs xbi xwe xda xpc xis xpr xic xrp xne : Int32} {xsn xss xbu xst xse xpl xin xs xty xcl : Nat → Int32} {xtl : Nat → Int64} {xds xdl : Nat → Int32} {xva : Nat → Int64} {xnm xns xna xnp : Nat → Int32}
variable {yca yli ytt ypf ybs ybi yis ypr yic yne yie yde : Int32} {ysn yss ybu yst yse yps ypn yin : Nat → Int32} {yfa : Nat → Int64} {yfo yfs : Nat → Int32} {ynn : Nat}
variable {A D sz B C st se PS PN P b fo B1 C1 PS1 PN1 P1 : Nat → Nat} {cap lim bs bi pc z ic pc1 : Nat}
def la_ (se : Nat → Nat) (bi : Nat) : Nat := if bi = 0 then 0 else se (bi - 1)
theorem x_last {post : Int32 → Prop} (hb : bi ≤ 16) (h : post (nI (la_ se bi))) : wpX_lastSection post (xca, xli, xtt, xpf, xbs, nI bi, xwe, xda, xpc, xis, xpr, xic, xrp, xne, xsn, xss, xbu, xst, ar_I se, xpl, xin, xs, xty, xcl, xtl, xds, xdl, xva, xnm, xns, xna, xnp) := by
  by_cases z0 : bi = 0
  · rw [show la_ se bi = 0 from if_pos z0] at h
    exact br_t (by rw [z0]; rfl) h
  · rw [show la_ se bi = se (bi - 1) from if_neg z0] at h
    refine br_f (fun e => z0 ((nI_i0 (by omega)).mp e)) ⟨pk_in (bi - 1) 16 (by omega) (ix_s (by omega)), ?_⟩
    rw [ar_rd (bi - 1) (ix_s (by omega))]
    exact h
theorem x_open {post : Int32 → SX → Prop} {sec : Nat} (hsec : sec < 4) (hl : lim ≤ 16) (hb : bi ≤ 16) (hla : la_ se bi ≤ 3)
    (h3 : sec < la_ se bi → post (-3) (xca, nI lim, xtt, xpf, xbs, nI bi, xwe, xda, xpc, xis, xpr, xic, xrp, xne, xsn, xss, xbu, xst, ar_I se, xpl, xin, xs, xty, xcl, xtl, xds, xdl, xva, xnm, xns, xna, xnp)) (h4 : la_ se bi ≤ sec → lim ≤ bi → post (-4) (xca, nI lim, xtt, xpf, xbs, nI bi, xwe, xda, xpc, xis, xpr, xic, xrp, xne, xsn, xss, xbu, xst, ar_I se, xpl, xin, xs, xty, xcl, xtl, xds, xdl, xva, xnm, xns, xna, xnp)) (h0 : la_ se bi ≤ sec → bi < lim → post 0 (xca, nI lim, xtt, xpf, xbs, nI bi, xbs, xda, xpc, xis, xpr, xic, xrp, xne, xsn, xss, xbu, xst, ar_I se, xpl, xin, xs, xty, xcl, xtl, xds, xdl, xva, xnm, xns, xna, xnp)) :
    wpX_openItem post (xca, nI lim, xtt, xpf, xbs, nI bi, xwe, xda, xpc, xis, xpr, xic, xrp, xne, xsn, xss, xbu, xst, ar_I se, xpl, xin, xs, xty, xcl, xtl, xds, xdl, xva, xnm, xns, xna, xnp) (nI sec) := by
  unfold wpX_openItem
  refine x_last hb ?_
  exact pk_le (la_ se bi) sec (fun y => pk_lt bi lim (h0 y) (h4 y)) h3
theorem y_add {post : Int32 → SY → Prop} {sec : Nat} {p1 p2 p3 p4 : Int32} {p5 : Int64} (hsec : sec < 4) (hb : bi ≤ 16) (hla : la_ se bi ≤ 3)
    (h3 : sec < la_ se bi → post (-3) (yca, yli, ytt, ypf, ybs, nI bi, yis, ypr, yic, yne, yie, yde, ysn, yss, ybu, yst, ar_I se, yps, ypn, yin, yfa, yfo, yfs, ynn)) (h0 : la_ se bi ≤ sec → wY_add_25 post (nI sec) p1 p2 p3 p4 p5 yca yli ytt ypf ybs (nI bi) yis ypr yic yne yie yde ysn yss ybu yst (ar_I se) yps ypn yin yfa yfo yfs ynn) :
    wpY_add post (yca, yli, ytt, ypf, ybs, nI bi, yis, ypr, yic, yne, yie, yde, ysn, yss, ybu, yst, ar_I se, yps, ypn, yin, yfa, yfo, yfs, ynn) (nI sec) p1 p2 p3 p4 p5 := by
  by_cases z0 : bi = 0
  · exact br_t (by rw [z0]; decide) (h0 (by rw [show la_ se bi = 0 from if_pos z0]; exact Nat.zero_le _))
  · have e : la_ se bi = se (bi - 1) := if_neg z0
    rw [e] at h3 h0 hla
    refine br_f (nI_nle (by omega) (by omega)) ⟨pk_in (bi - 1) 16 (by omega) (ix_s (by omega)), ?_⟩
    rw [ar_rd (bi - 1) (ix_s (by omega))]
    exact pk_le (se (bi - 1)) sec h0 h3
theorem la_3 (hbl : bl_ cap lim bs bi B C st se PS PN P pc) : la_ se bi ≤ 3 := by
  unfold la_
  split
  · omega
  · exact (hbl.2.2.2.2.2.2.2.2.1 (bi - 1) (by omega)).1
theorem wk_0 (hbl : bl_ cap lim bs bi B C st se PS PN P pc) : wk_ bs pc B C PS PN P 1000 bs B C PS PN P pc := ⟨hbl.2.2.2.2.2.2.1, fr_rf, Nat.le_refl _⟩
theorem i_vc_addQuestion {k : Nat} {u : SX} {v : SY} (I : i_Rel k u v) (hk : k + 5 ≤ 2562) (v1 : Int32) (v2 : Int32) (v3 : Int32) : wpX_addQuestion (fun r u' => wpY_addQuestion (fun r' v' => r' = r ∧ i_Rel (k + 5) u' v') v v1 v2 v3) u v1 v2 v3 := by
  refine I (fun u v => wpX_addQuestion (fun r u' => wpY_addQuestion (fun r' v' => r' = r ∧ i_Rel (k + 5) u' v') v v1 v2 v3) u v1 v2 v3) ?_
  intro cap lim bs bi pc z ic xtt xpf xwe xda xpr xrp xne yne yie yde A D sz B C st se PS PN P b fo xs xty xcl xds xdl xnm xns xna xnp yfs xtl xva yfa hsl hbl hin hit
  have R : i_Rel (k + 5) (nI cap, nI lim, xtt, xpf, nI bs, nI bi, xwe, xda, nI pc, nI z, xpr, nI ic, xrp, xne, ar_I A, ar_I sz, ar_I B, ar_I st, ar_I se, ar_I P, ar_I b, xs, xty, xcl, xtl, xds, xdl, xva, xnm, xns, xna, xnp) (nI cap, nI lim, xtt, xpf, nI bs, nI bi, nI z, xpr, nI ic, yne, yie, yde, ar_I D, ar_I sz, ar_I C, ar_I st, ar_I se, ar_I PS, ar_I PN, ar_I b, yfa, ar_I fo, yfs, 32768) := rl_mk hsl hbl hin hit
  refine lk_use (WX := fun post => wpX_addQuestion post (nI cap, nI lim, xtt, xpf, nI bs, nI bi, xwe, xda, nI pc, nI z, xpr, nI ic, xrp, xne, ar_I A, ar_I sz, ar_I B, ar_I st, ar_I se, ar_I P, ar_I b, xs, xty, xcl, xtl, xds, xdl, xva, xnm, xns, xna, xnp) v1 v2 v3) (WY := fun post => wpY_addQuestion post (nI cap, nI lim, xtt, xpf, nI bs, nI bi, nI z, xpr, nI ic, yne, yie, yde, ar_I D, ar_I sz, ar_I C, ar_I st, ar_I se, ar_I PS, ar_I PN, ar_I b, yfa, ar_I fo, yfs, 32768) v1 v2 v3) ?_
  have hl16 : lim ≤ 16 := hbl.2.2.2.1
  have hbl6 : bi ≤ lim := hbl.2.2.2.2.2.1
  have hbs : bs ≤ 255 := by have := hbl.2.1; have := hbl.2.2.2.2.1; omega
  have hla := la_3 hbl
  rcases sl_cs v1 with h | ⟨s, hs, rfl⟩
  · refine ⟨-2, _, _, R, fun post hp => ?_, fun post hp => ns_br h hp⟩
    unfold wpX_addQuestion
    exact x_nslot h (br_t rfl hp)
  by_cases c1 : v2 < 0
  · refine ⟨-1, _, _, R, fun post hp => ?_, fun post hp => sl_br hs (br_t c1 hp)⟩
    unfold wpX_addQuestion
    exact x_slot hs (br_f (by decide) (br_t c1 hp))
  by_cases c2 : 65535 < v2
  · refine ⟨-1, _, _, R, fun post hp => ?_, fun post hp => sl_br hs (br_f c1 (br_t c2 hp))⟩
    unfold wpX_addQuestion
    exact x_slot hs (br_f (by decide) (br_f c1 (br_t c2 hp)))
  by_cases c3 : v3 < 0
  · refine ⟨-1, _, _, R, fun post hp => ?_, fun post hp => sl_br hs (br_f c1 (br_f c2 (br_t c3 hp)))⟩
    unfold wpX_addQuestion
    exact x_slot hs (br_f (by decide) (br_f c1 (br_f c2 (br_t c3 hp))))
  by_cases c4 : v3 ≤ 65535
  case neg =>
    refine ⟨-1, _, _, R, fun post hp => ?_, fun post hp => sl_br hs (br_f c1 (br_f c2 (br_f c3 (br_f c4 hp))))⟩
    unfold wpX_addQuestion
    exact x_slot hs (br_f (by decide) (br_f c1 (br_f c2 (br_f c3 (br_f c4 hp)))))
  by_cases d3 : 0 < la_ se bi
  · refine ⟨-3, _, _, R, fun post hp => ?_, fun post hp => sl_br hs (br_f c1 (br_f c2 (br_f c3 (br_t c4 ?_))))⟩
    · unfold wpX_addQuestion
      refine x_slot hs (br_f (by decide) (br_f c1 (br_f c2 (br_f c3 (br_t c4 ?_)))))
      exact x_open (sec := 0) (by decide) hl16 (by omega) hla (fun _ => br_f (by decide) hp) (fun y => by omega) (fun y => by omega)
    · exact y_add (sec := 0) (by decide) (by omega) hla (fun _ => hp) (fun y => by omega)
  by_cases d4 : lim ≤ bi
  · refine ⟨-4, _, _, R, fun post hp => ?_, fun post hp => sl_br hs (br_f c1 (br_f c2 (br_f c3 (br_t c4 ?_))))⟩
    · unfold wpX_addQuestion
      refine x_slot hs (br_f (by decide) (br_f c1 (br_f c2 (br_f c3 (br_t c4 ?_)))))
      exact x_open (sec := 0) (by decide) hl16 (by omega) hla (fun y => by omega) (fun _ _ => br_f (by decide) hp) (fun _ y => by omega)
    · exact y_add (sec := 0) (by decide) (by omega) hla (fun y => by omega) (fun _ => br_f (nI_nlt d4 (by omega)) hp)
  obtain ⟨w1, B1, C1, PS1, PN1, P1, pc1, g1, g2, wk1, hX1, hY1⟩ := wk_wn (xca := nI cap) (xli := nI lim) (xtt := xtt) (xpf := xpf) (xbs := nI bs) (xbi := nI bi) (xda := xda) (xis := nI z) (xpr := xpr) (xic := nI ic) (xrp := xrp) (xne := xne) (xss := ar_I sz) (xst := ar_I st) (xse := ar_I se) (xin := ar_I b) (xs := xs) (xty := xty) (xcl := xcl) (xtl := xtl) (xds := xds) (xdl := xdl) (xva := xva) (xnm := xnm) (xns := xns) (xna := xna) (xnp := xnp) (yca := nI cap) (yli := nI lim) (ytt := xtt) (ypf := xpf) (ybs := nI bs) (ybi := nI bi) (yis := nI z) (ypr := xpr) (yic := nI ic) (yne := yne) (yie := yie) (yde := yde) (yst := ar_I st) (yse := ar_I se) (yin := ar_I b) (yfa := yfa) (yfo := ar_I fo) (yfs := yfs) hs hsl (wk_0 hbl) (by omega)
  obtain ⟨r, u', v', hR, hX, hY⟩ := cl_lock (k := k) (xtt := xtt) (xpf := xpf) (xda := xda) (xpr := xpr) (xrp := xrp) (xne := xne) (xs := xs) (xty := xty) (xcl := xcl) (xtl := xtl) (xds := xds) (xdl := xdl) (xva := xva) (xnm := xnm) (xns := xns) (xna := xna) (xnp := xnp) (yne := yne) (yie := yie) (yde := yde) (yfa := yfa) (yfs := yfs) (fo := fo) hsl hbl hin hit (wk_p2 (v := v3) (wk_p2 (v := v2) wk1 (by omega)) (by omega)) (by omega) (s := 0) (by decide)
  obtain ⟨u0, u1, u2, u3, u4, u5, u6, u7, u8, u9, u10, u11, u12, u13, u14, u15, u16, u17, u18, u19, u20, u21, u22, u23, u24, u25, u26, u27, u28, u29, u30, u31⟩ := u'
  obtain ⟨v0, v1, v2, v3, v4, v5, v6, v7, v8, v9, v10, v11, v12, v13, v14, v15, v16, v17, v18, v19, v20, v21, v22, v23⟩ := v'
  refine ⟨r, _, _, hR, fun post hp => ?_, fun post hp => sl_br hs (br_f c1 (br_f c2 (br_f c3 (br_t c4 ?_))))⟩
  · unfold wpX_addQuestion
    refine x_slot hs (br_f (by decide) (br_f c1 (br_f c2 (br_f c3 (br_t c4 ?_)))))
    refine x_open (sec := 0) (by decide) hl16 (by omega) hla (fun y => by omega) (fun _ y => by omega) (fun _ _ => br_t rfl ?_)
    refine hX1 _ ?_
    refine x_p2 (by omega) ?_
    refine x_p2 (by omega) ?_
    exact hX _ hp
  · refine y_add (sec := 0) (by decide) (by omega) hla (fun y => by omega) (fun _ => br_t (nI_lt (by omega) (by omega)) ?_)
    refine hY1 _ ?_
    refine y_p2 (by omega) ?_
    refine y_p2 (by omega) ?_
    refine br_t (by decide) ?_
    exact hY _ hp
/-! records: the head -/
def rh_ (B : Nat → Nat) (w : Nat) (ty tt : Int32) : Nat → Nat := p2_ (p2_ (p2_ (p2_ B w ty) (w + 2) 1) (w + 4) (tt.toUInt32 >>> ((16 : Int32).toUInt32 &&& Int32.toUInt32 31)).toInt32) (w + 6) tt
theorem wk_rh {bs pc0 w pc : Nat} {ty tt : Int32} {B0 C0 PS0 PN0 P0 : Nat → Nat} (h : wk_ bs pc0 B0 C0 PS0 PN0 P0 1000 w B C PS PN P pc) (hw : w + 10 ≤ 511) : wk_ bs pc0 B0 C0 PS0 PN0 P0 (w + 8) (w + 10) (p2_ (rh_ B w ty tt) (w + 8) 0) (rh_ C w ty tt) PS PN P pc :=
  wk_gap (wk_p2 (wk_p2 (wk_p2 (wk_p2 h (by omega)) (by omega)) (by omega)) (by omega)) (by omega)
theorem x_wrh {post : SX → Prop} {ty : Int32} {w w1 s : Nat} (hw : w1 + 10 ≤ 512) (hX : ∀ post : SX → Prop, post (xca, xli, xtt, xpf, xbs, xbi, nI w1, xda, nI pc1, xis, xpr, xic, xrp, xne, xsn, xss, ar_I B1, xst, xse, ar_I P1, xin, xs, xty, xcl, xtl, xds, xdl, xva, xnm, xns, xna, xnp) → wpX_writeName post (xca, xli, xtt, xpf, xbs, xbi, nI w, xda, nI pc, xis, xpr, xic, xrp, xne, xsn, xss, ar_I B, xst, xse, ar_I P, xin, xs, xty, xcl, xtl, xds, xdl, xva, xnm, xns, xna, xnp) (nI s))
    (h : post (xca, xli, xtt, xpf, xbs, xbi, nI (w1 + 10), nI (w1 + 10), nI pc1, xis, xpr, xic, xrp, xne, xsn, xss, ar_I (p2_ (rh_ B1 w1 ty xtt) (w1 + 8) 0), xst, xse, ar_I P1, xin, xs, xty, xcl, xtl, xds, xdl, xva, xnm, xns, xna, xnp)) : wpX_writeRecordHead post (xca, xli, xtt, xpf, xbs, xbi, nI w, xda, nI pc, xis, xpr, xic, xrp, xne, xsn, xss, ar_I B, xst, xse, ar_I P, xin, xs, xty, xcl, xtl, xds, xdl, xva, xnm, xns, xna, xnp) (nI s) ty := by
  unfold wpX_writeRecordHead
  refine hX _ ?_
  refine x_p2 (by omega) ?_
  refine x_p2 (by omega) ?_
  refine x_p2 (by omega) ?_
  refine x_p2 (by omega) ?_
  refine x_p2 (by omega) ?_
  exact h
/-- a record section, or not -/
theorem sc_cs (x : Int32) : (x < 1 ∨ 3 < x) ∨ ∃ s, 1 ≤ s ∧ s < 4 ∧ x = nI s := by
  by_cases h1 : x < 1
  · exact Or.inl (Or.inl h1)
  · by_cases h3 : 3 < x
    · exact Or.inl (Or.inr h3)
    · rw [Int32.lt_iff_toInt_lt, show (1 : Int32).toInt = 1 from by decide] at h1
      rw [Int32.lt_iff_toInt_lt, show (3 : Int32).toInt = 3 from by decide] at h3
      have h0 : ¬ x < 0 := by rw [Int32.lt_iff_toInt_lt, show (0 : Int32).toInt = 0 from by decide]; omega
      obtain ⟨j, hj, rfl⟩ := nI_of h0
      rw [nI_toInt hj] at h1 h3
      exact Or.inr ⟨j, by omega, by omega, rfl⟩
theorem nc_br {x : Int32} {E F : Prop} (h : x < 1 ∨ 3 < x) (a : E) : (x < 1 → E) ∧ (¬ x < 1 → ((x ≤ 3 → F) ∧ (¬ x ≤ 3 → E))) := by
  by_cases h1 : x < 1
  · exact br_t h1 a
  · exact br_f h1 (br_f (fun y => by
      have := h.resolve_left h1
      rw [Int32.lt_iff_toInt_lt] at this
      rw [Int32.le_iff_toInt_le] at y
      omega) a)
theorem sc_br {s : Nat} {E F : Prop} (h1 : 1 ≤ s) (hs : s < 4) (a : F) : (nI s < 1 → E) ∧ (¬ nI s < 1 → ((nI s ≤ 3 → F) ∧ (¬ nI s ≤ 3 → E))) :=
  br_f (nI_nlt (b := 1) h1 (by omega)) (br_t (nI_le (b := 3) (by omega) (by decide)) a)
theorem i_vc_addAddress {k : Nat} {u : SX} {v : SY} (I : i_Rel k u v) (hk : k + 5 ≤ 2562) (v1 : Int32) (v2 : Int32) (v3 : Int32) : wpX_addAddress (fun r u' => wpY_addAddress (fun r' v' => r' = r ∧ i_Rel (k + 5) u' v') v v1 v2 v3) u v1 v2 v3 := by
  refine I (fun u v => wpX_addAddress (fun r u' => wpY_addAddress (fun r' v' => r' = r ∧ i_Rel (k + 5) u' v') v v1 v2 v3) u v1 v2 v3) ?_
  intro cap lim bs bi pc z ic xtt xpf xwe xda xpr xrp xne yne yie yde A D sz B C st se PS PN P b fo xs xty xcl xds xdl xnm xns xna xnp yfs xtl xva yfa hsl hbl hin hit
  have R : i_Rel (k + 5) (nI cap, nI lim, xtt, xpf, nI bs, nI bi, xwe, xda, nI pc, nI z, xpr, nI ic, xrp, xne, ar_I A, ar_I sz, ar_I B, ar_I st, ar_I se, ar_I P, ar_I b, xs, xty, xcl, xtl, xds, xdl, xva, xnm, xns, xna, xnp) (nI cap, nI lim, xtt, xpf, nI bs, nI bi, nI z, xpr, nI ic, yne, yie, yde, ar_I D, ar_I sz, ar_I C, ar_I st, ar_I se, ar_I PS, ar_I PN, ar_I b, yfa, ar_I fo, yfs, 32768) := rl_mk hsl hbl hin hit
  refine lk_use (WX := fun post => wpX_addAddress post (nI cap, nI lim, xtt, xpf, nI bs, nI bi, xwe, xda, nI pc, nI z, xpr, nI ic, xrp, xne, ar_I A, ar_I sz, ar_I B, ar_I st, ar_I se, ar_I P, ar_I b, xs, xty, xcl, xtl, xds, xdl, xva, xnm, xns, xna, xnp) v1 v2 v3) (WY := fun post => wpY_addAddress post (nI cap, nI lim, xtt, xpf, nI bs, nI bi, nI z, xpr, nI ic, yne, yie, yde, ar_I D, ar_I sz, ar_I C, ar_I st, ar_I se, ar_I PS, ar_I PN, ar_I b, yfa, ar_I fo, yfs, 32768) v1 v2 v3) ?_
  have hl16 : lim ≤ 16 := hbl.2.2.2.1
  have hbl6 : bi ≤ lim := hbl.2.2.2.2.2.1
  have hbs : bs ≤ 255 := by have := hbl.2.1; have := hbl.2.2.2.2.1; omega
  have hla := la_3 hbl
  rcases sc_cs v1 with h | ⟨sec, hc1, hc, rfl⟩
  · refine ⟨-1, _, _, R, fun post hp => ?_, fun post hp => nc_br h hp⟩
    unfold wpX_addAddress
    exact x_nsec h (br_t rfl hp)
  rcases sl_cs v2 with h | ⟨s, hs, rfl⟩
  · refine ⟨-2, _, _, R, fun post hp => ?_, fun post hp => sc_br hc1 hc (ns_br h hp)⟩
    unfold wpX_addAddress
    exact x_sec hc1 hc (br_f (by decide) (x_nslot h (br_t rfl hp)))
  by_cases d3 : sec < la_ se bi
  · refine ⟨-3, _, _, R, fun post hp => ?_, fun post hp => sc_br hc1 hc (sl_br hs ?_)⟩
    · unfold wpX_addAddress
      refine x_sec hc1 hc (br_f (by decide) (x_slot hs (br_f (by decide) ?_)))
      exact x_open hc hl16 (by omega) hla (fun _ => br_f (by decide) hp) (fun y => by omega) (fun y => by omega)
    · exact y_add hc (by omega) hla (fun _ => hp) (fun y => by omega)
  by_cases d4 : lim ≤ bi
  · refine ⟨-4, _, _, R, fun post hp => ?_, fun post hp => sc_br hc1 hc (sl_br hs ?_)⟩
    · unfold wpX_addAddress
      refine x_sec hc1 hc (br_f (by decide) (x_slot hs (br_f (by decide) ?_)))
      exact x_open hc hl16 (by omega) hla (fun y => by omega) (fun _ _ => br_f (by decide) hp) (fun _ y => by omega)
    · exact y_add hc (by omega) hla (fun y => by omega) (fun _ => br_f (nI_nlt d4 (by omega)) hp)
  obtain ⟨w1, B1, C1, PS1, PN1, P1, pc1, g1, g2, wk1, hX1, hY1⟩ := wk_wn (xca := nI cap) (xli := nI lim) (xtt := xtt) (xpf := xpf) (xbs := nI bs) (xbi := nI bi) (xda := xda) (xis := nI z) (xpr := xpr) (xic := nI ic) (xrp := xrp) (xne := xne) (xss := ar_I sz) (xst := ar_I st) (xse := ar_I se) (xin := ar_I b) (xs := xs) (xty := xty) (xcl := xcl) (xtl := xtl) (xds := xds) (xdl := xdl) (xva := xva) (xnm := xnm) (xns := xns) (xna := xna) (xnp := xnp) (yca := nI cap) (yli := nI lim) (ytt := xtt) (ypf := xpf) (ybs := nI bs) (ybi := nI bi) (yis := nI z) (ypr := xpr) (yic := nI ic) (yne := yne) (yie := yie) (yde := yde) (yst := ar_I st) (yse := ar_I se) (yin := ar_I b) (yfa := yfa) (yfo := ar_I fo) (yfs := yfs) hs hsl (wk_0 hbl) (by omega)
  obtain ⟨r, u', v', hR, hX, hY⟩ := rec_cl (k := k) (xtt := xtt) (xpf := xpf) (xpr := xpr) (xrp := xrp) (xne := xne) (xs := xs) (xty := xty) (xcl := xcl) (xtl := xtl) (xds := xds) (xdl := xdl) (xva := xva) (xnm := xnm) (xns := xns) (xna := xna) (xnp := xnp) (yne := yne) (yie := yie) (yde := yde) (yfa := yfa) (yfs := yfs) (fo := fo) hsl hbl hin hit (wk_p2 (v := v3) (wk_p2 (v := (v3.toUInt32 >>> ((16 : Int32).toUInt32 &&& Int32.toUInt32 31)).toInt32) (wk_rh (ty := 1) (tt := xtt) wk1 (by omega)) (by omega)) (by omega)) (by omega) (by omega) (by omega) hc
  obtain ⟨u0, u1, u2, u3, u4, u5, u6, u7, u8, u9, u10, u11, u12, u13, u14, u15, u16, u17, u18, u19, u20, u21, u22, u23, u24, u25, u26, u27, u28, u29, u30, u31⟩ := u'
  obtain ⟨v0, v1, v2, v3, v4, v5, v6, v7, v8, v9, v10, v11, v12, v13, v14, v15, v16, v17, v18, v19, v20, v21, v22, v23⟩ := v'
  refine ⟨r, _, _, hR, fun post hp => ?_, fun post hp => sc_br hc1 hc (sl_br hs ?_)⟩
  · unfold wpX_addAddress
    refine x_sec hc1 hc (br_f (by decide) (x_slot hs (br_f (by decide) ?_)))
    refine x_open hc hl16 (by omega) hla (fun y => by omega) (fun _ y => by omega) (fun _ _ => br_t rfl ?_)
    refine x_wrh (by omega) hX1 ?_
    refine x_p2 (by omega) ?_
    refine x_p2 (by omega) ?_
    exact hX _ hp
  · refine y_add hc (by omega) hla (fun y => by omega) (fun _ => br_t (nI_lt (by omega) (by omega)) ?_)
    refine hY1 _ ?_
    refine y_p2 (by omega) ?_
    refine y_p2 (by omega) ?_
    refine br_f (nI_nle (by omega) (by omega)) ?_
    refine y_p4 (by omega) ?_
    refine nm_r (nI_add _ 2) (br_t rfl ?_)
    rw [Int32.toInt32_toInt64]
    refine y_p4 (by omega) ?_
    exact hY _ hp
end ADD
end
section
/-! addText, addLink -/
section ADD2
variable {xca xli xtt xpf xbs xbi xwe xda xpc xis xpr xic xrp xne : Int32} {xsn xss xbu xst xse xpl xin xs xty xcl : Nat → Int32} {xtl : Nat → Int64} {xds xdl : Nat → Int32} {xva : Nat → Int64} {xnm xns xna xnp : Nat → Int32}
variable {yca yli ytt ypf ybs ybi yis ypr yic yne yie yde : Int32} {ysn yss ybu yst yse yps ypn yin : Nat → Int32} {yfa : Nat → Int64} {yfo yfs : Nat → Int32} {ynn : Nat}
variable {A D sz B C st se PS PN P b fo B1 C1 PS1 PN1 P1 : Nat → Nat} {cap lim bs bi pc z ic pc1 : Nat}
theorem wk_bw {pc0 G w pc : Nat} {f B0 C0 PS0 PN0 P0 : Nat → Nat} (h : wk_ bs pc0 B0 C0 PS0 PN0 P0 G w B C PS PN P pc) (hf : ∀ i, f i < 256) : ∀ n, w + n ≤ 511 → wk_ bs pc0 B0 C0 PS0 PN0 P0 G (w + n) (ar_bw B w f n) (ar_bw C w f n) PS PN P pc := by
  intro n
  induction n with
  | zero =>
    intro _
    rw [ar_b0, ar_b0]
    exact h
  | succ n ih =>
    intro hn
    rw [← ar_bS, ← ar_bS]
    exact wk_put (ih (by omega)) (hf n) (by omega)
theorem x_59 {post : Int32 → SX → Prop} {r : Int32} {u' : SX} {t : Int64} {x1 : Int32} {w L : Nat} (hL : L ≤ 8) (hw : w + L ≤ 511) (hX : ∀ post : Int32 → SX → Prop, post r u' → wpX_closeRecord post (xca, xli, xtt, xpf, xbs, xbi, nI (w + L), xda, xpc, xis, xpr, xic, xrp, xne, xsn, xss, ar_I (ar_bw B w (tx_b t) L), xst, xse, xpl, xin, xs, xty, xcl, xtl, xds, xdl, xva, xnm, xns, xna, xnp) x1) (hp : post r u') :
    ∀ d i n, i + d = L → d < n → wX_addText_59 post x1 t (nI L) n (nI i) xca xli xtt xpf xbs xbi (nI (w + i)) xda xpc xis xpr xic xrp xne xsn xss (ar_I (ar_bw B w (tx_b t) i)) xst xse xpl xin xs xty xcl xtl xds xdl xva xnm xns xna xnp := by
  obtain ⟨u0, u1, u2, u3, u4, u5, u6, u7, u8, u9, u10, u11, u12, u13, u14, u15, u16, u17, u18, u19, u20, u21, u22, u23, u24, u25, u26, u27, u28, u29, u30, u31⟩ := u'
  intro d
  induction d with
  | zero =>
    intro i n h1 h2
    obtain ⟨n, rfl⟩ : ∃ m, n = m + 1 := ⟨n - 1, by omega⟩
    have e : i = L := by omega
    subst e
    exact br_t (nI_le (Nat.le_refl _) (by omega)) (hX _ hp)
  | succ d ih =>
    intro i n h1 h2
    obtain ⟨n, rfl⟩ : ∃ m, n = m + 1 := ⟨n - 1, by omega⟩
    have K := ih (i + 1) n (by omega) (by omega)
    rw [← ar_bS] at K
    exact br_f (nI_ge (by omega) (by omega)) (x_byte (by omega) (x_put rfl (by omega) (nm_r (nI_1 i) K)))
theorem y_141 {post : Int32 → SY → Prop} {t : Int64} {x1 x9 : Int32} {w L : Nat} (hL : L ≤ 8) (hw : w + 1 + L ≤ 511) (h : wY_add_215 post x1 (nI (w + 1 + L)) x9 yca yli ytt ypf ybs ybi yis ypr yic yne yie yde ysn yss (ar_I (ar_bw C (w + 1) (tx_b t) L)) yst yse yps ypn yin yfa yfo yfs ynn) :
    ∀ d i n, i + d = L → d < n → wY_add_141 post x1 t (nI w) x9 (nI L) yca yli ytt ypf ybs ybi yis ypr yic yne yie yde ynn n (nI i) ysn yss (ar_I (ar_bw C (w + 1) (tx_b t) i)) yst yse yps ypn yin yfa yfo yfs := by
  intro d
  induction d with
  | zero =>
    intro i n h1 h2
    obtain ⟨n, rfl⟩ : ∃ m, n = m + 1 := ⟨n - 1, by omega⟩
    have e : i = L := by omega
    subst e
    exact br_t (nI_le (Nat.le_refl _) (by omega)) (nm_r (ix_p w i) h)
  | succ d ih =>
    intro i n h1 h2
    obtain ⟨n, rfl⟩ : ∃ m, n = m + 1 := ⟨n - 1, by omega⟩
    have K := ih (i + 1) n (by omega) (by omega)
    rw [← ar_bS] at K
    exact br_f (nI_ge (by omega) (by omega)) (y_byte (by omega) ⟨pk_in (w + 1 + i) 512 (by omega) (ix_q w i), nm_r (ar_st (w + 1 + i) (tx_b t i) (ix_q w i)) (nm_r (nI_1 i) K)⟩)
theorem i_vc_addText {k : Nat} {u : SX} {v : SY} (I : i_Rel k u v) (hk : k + 5 ≤ 2562) (v1 : Int32) (v2 : Int32) (a2 : Int64) : wpX_addText (fun r u' => wpY_addText (fun r' v' => r' = r ∧ i_Rel (k + 5) u' v') v v1 v2 a2) u v1 v2 a2 := by
  refine I (fun u v => wpX_addText (fun r u' => wpY_addText (fun r' v' => r' = r ∧ i_Rel (k + 5) u' v') v v1 v2 a2) u v1 v2 a2) ?_
  intro cap lim bs bi pc z ic xtt xpf xwe xda xpr xrp xne yne yie yde A D sz B C st se PS PN P b fo xs xty xcl xds xdl xnm xns xna xnp yfs xtl xva yfa hsl hbl hin hit
  have R : i_Rel (k + 5) (nI cap, nI lim, xtt, xpf, nI bs, nI bi, xwe, xda, nI pc, nI z, xpr, nI ic, xrp, xne, ar_I A, ar_I sz, ar_I B, ar_I st, ar_I se, ar_I P, ar_I b, xs, xty, xcl, xtl, xds, xdl, xva, xnm, xns, xna, xnp) (nI cap, nI lim, xtt, xpf, nI bs, nI bi, nI z, xpr, nI ic, yne, yie, yde, ar_I D, ar_I sz, ar_I C, ar_I st, ar_I se, ar_I PS, ar_I PN, ar_I b, yfa, ar_I fo, yfs, 32768) := rl_mk hsl hbl hin hit
  refine lk_use (WX := fun post => wpX_addText post (nI cap, nI lim, xtt, xpf, nI bs, nI bi, xwe, xda, nI pc, nI z, xpr, nI ic, xrp, xne, ar_I A, ar_I sz, ar_I B, ar_I st, ar_I se, ar_I P, ar_I b, xs, xty, xcl, xtl, xds, xdl, xva, xnm, xns, xna, xnp) v1 v2 a2) (WY := fun post => wpY_addText post (nI cap, nI lim, xtt, xpf, nI bs, nI bi, nI z, xpr, nI ic, yne, yie, yde, ar_I D, ar_I sz, ar_I C, ar_I st, ar_I se, ar_I PS, ar_I PN, ar_I b, yfa, ar_I fo, yfs, 32768) v1 v2 a2) ?_
  have hl16 : lim ≤ 16 := hbl.2.2.2.1
  have hbl6 : bi ≤ lim := hbl.2.2.2.2.2.1
  have hbs : bs ≤ 255 := by have := hbl.2.1; have := hbl.2.2.2.2.1; omega
  have hla := la_3 hbl
  rcases sc_cs v1 with h | ⟨sec, hc1, hc, rfl⟩
  · refine ⟨-1, _, _, R, fun post hp => ?_, fun post hp => nc_br h hp⟩
    unfold wpX_addText
    exact x_nsec h (br_t rfl hp)
  rcases sl_cs v2 with h | ⟨s, hs, rfl⟩
  · refine ⟨-2, _, _, R, fun post hp => ?_, fun post hp => sc_br hc1 hc (ns_br h hp)⟩
    unfold wpX_addText
    exact x_sec hc1 hc (br_f (by decide) (x_nslot h (br_t rfl hp)))
  by_cases d3 : sec < la_ se bi
  · refine ⟨-3, _, _, R, fun post hp => ?_, fun post hp => sc_br hc1 hc (sl_br hs ?_)⟩
    · unfold wpX_addText
      refine x_sec hc1 hc (br_f (by decide) (x_slot hs (br_f (by decide) ?_)))
      exact x_open hc hl16 (by omega) hla (fun _ => br_f (by decide) hp) (fun y => by omega) (fun y => by omega)
    · exact y_add hc (by omega) hla (fun _ => hp) (fun y => by omega)
  by_cases d4 : lim ≤ bi
  · refine ⟨-4, _, _, R, fun post hp => ?_, fun post hp => sc_br hc1 hc (sl_br hs ?_)⟩
    · unfold wpX_addText
      refine x_sec hc1 hc (br_f (by decide) (x_slot hs (br_f (by decide) ?_)))
      exact x_open hc hl16 (by omega) hla (fun y => by omega) (fun _ _ => br_f (by decide) hp) (fun _ y => by omega)
    · exact y_add hc (by omega) hla (fun y => by omega) (fun _ => br_f (nI_nlt d4 (by omega)) hp)
  obtain ⟨L, hL, tX, tY⟩ := tl_ex a2
  obtain ⟨w1, B1, C1, PS1, PN1, P1, pc1, g1, g2, wk1, hX1, hY1⟩ := wk_wn (xca := nI cap) (xli := nI lim) (xtt := xtt) (xpf := xpf) (xbs := nI bs) (xbi := nI bi) (xda := xda) (xis := nI z) (xpr := xpr) (xic := nI ic) (xrp := xrp) (xne := xne) (xss := ar_I sz) (xst := ar_I st) (xse := ar_I se) (xin := ar_I b) (xs := xs) (xty := xty) (xcl := xcl) (xtl := xtl) (xds := xds) (xdl := xdl) (xva := xva) (xnm := xnm) (xns := xns) (xna := xna) (xnp := xnp) (yca := nI cap) (yli := nI lim) (ytt := xtt) (ypf := xpf) (ybs := nI bs) (ybi := nI bi) (yis := nI z) (ypr := xpr) (yic := nI ic) (yne := yne) (yie := yie) (yde := yde) (yst := ar_I st) (yse := ar_I se) (yin := ar_I b) (yfa := yfa) (yfo := ar_I fo) (yfs := yfs) hs hsl (wk_0 hbl) (by omega)
  obtain ⟨r, u', v', hR, hX, hY⟩ := rec_cl (k := k) (xtt := xtt) (xpf := xpf) (xpr := xpr) (xrp := xrp) (xne := xne) (xs := xs) (xty := xty) (xcl := xcl) (xtl := xtl) (xds := xds) (xdl := xdl) (xva := xva) (xnm := xnm) (xns := xns) (xna := xna) (xnp := xnp) (yne := yne) (yie := yie) (yde := yde) (yfa := yfa) (yfs := yfs) (fo := fo) hsl hbl hin hit (wk_bw (f := tx_b a2) (wk_put (v := L) (wk_rh (ty := 16) (tt := xtt) wk1 (by omega)) (by omega) (by omega)) (fun _ => tx_lt) L (by omega)) (by omega) (by omega) (by omega) hc
  refine ⟨r, u', v', hR, fun post hp => ?_, fun post hp => sc_br hc1 hc (sl_br hs ?_)⟩
  · unfold wpX_addText
    refine x_sec hc1 hc (br_f (by decide) (x_slot hs (br_f (by decide) ?_)))
    refine x_open hc hl16 (by omega) hla (fun y => by omega) (fun _ y => by omega) (fun _ _ => br_t rfl ?_)
    refine x_wrh (by omega) hX1 ?_
    apply tX
    refine x_put rfl (by omega) ?_
    have K := x_59 hL (by omega) hX hp L 0 (L + 1) (by omega) (by omega)
    rw [ar_b0, Nat.add_zero] at K
    exact ⟨_, K⟩
  · obtain ⟨v0, v1, v2, v3, v4, v5, v6, v7, v8, v9, v10, v11, v12, v13, v14, v15, v16, v17, v18, v19, v20, v21, v22, v23⟩ := v'
    refine y_add hc (by omega) hla (fun y => by omega) (fun _ => br_t (nI_lt (by omega) (by omega)) ?_)
    refine hY1 _ ?_
    refine y_p2 (by omega) ?_
    refine y_p2 (by omega) ?_
    refine br_f (nI_nle (by omega) (by omega)) ?_
    refine y_p4 (by omega) ?_
    refine nm_r (nI_add _ 2) (br_f (by decide) (br_t rfl ?_))
    apply tY
    have K := y_141 hL (by omega) (hY _ hp) L 0 (L + 1) (by omega) (by omega)
    rw [ar_b0] at K
    exact ⟨vp_in_nI (by omega) (by decide), nm_r (ar_st (w1 + 10) L) ⟨_, K⟩⟩
/-! addLink -/
theorem lk_81 {k w s tg G : Nat} (hsl : sl_ A D sz) (hbl : bl_ cap lim bs bi B C st se PS PN P pc) (hin : ip_ b z ic) (hit : it_ b z lim ic xs xty xcl xtl xds xdl xva xnm xns xna xnp) (hw : wk_ bs pc B C PS PN P G w B1 C1 PS1 PN1 P1 pc1) (hG : G < 512) (hbG : bs ≤ G) (hw5 : w + 64 ≤ 511) (hb : bi < lim) (hs : s < 4) (ht : tg < 4) :
    lk_ k (fun post => wX_addLink_81 post (nI s) (nI tg) (nI cap) (nI lim) xtt xpf (nI bs) (nI bi) (nI w) (nI (G + 2)) (nI pc1) (nI z) xpr (nI ic) xrp xne (ar_I A) (ar_I sz) (ar_I B1) (ar_I st) (ar_I se) (ar_I P1) (ar_I b) xs xty xcl xtl xds xdl xva xnm xns xna xnp) (fun post => wY_add_205 post (nI s) (nI tg) (nI w) (nI G) (nI cap) (nI lim) xtt xpf (nI bs) (nI bi) (nI z) xpr (nI ic) yne yie yde (ar_I D) (ar_I sz) (ar_I C1) (ar_I st) (ar_I se) (ar_I PS1) (ar_I PN1) (ar_I b) yfa (ar_I fo) yfs 32768) := by
  obtain ⟨w2, B2, C2, PS2, PN2, P2, pc2, g1, g2, wk2, hX1, hY1⟩ := wk_wn (xca := nI cap) (xli := nI lim) (xtt := xtt) (xpf := xpf) (xbs := nI bs) (xbi := nI bi) (xda := nI (G + 2)) (xis := nI z) (xpr := xpr) (xic := nI ic) (xrp := xrp) (xne := xne) (xss := ar_I sz) (xst := ar_I st) (xse := ar_I se) (xin := ar_I b) (xs := xs) (xty := xty) (xcl := xcl) (xtl := xtl) (xds := xds) (xdl := xdl) (xva := xva) (xnm := xnm) (xns := xns) (xna := xna) (xnp := xnp) (yca := nI cap) (yli := nI lim) (ytt := xtt) (ypf := xpf) (ybs := nI bs) (ybi := nI bi) (yis := nI z) (ypr := xpr) (yic := nI ic) (yne := yne) (yie := yie) (yde := yde) (yst := ar_I st) (yse := ar_I se) (yin := ar_I b) (yfa := yfa) (yfo := ar_I fo) (yfs := yfs) ht hsl hw (by omega)
  obtain ⟨r, u', v', hR, hX, hY⟩ := rec_cl (k := k) (xtt := xtt) (xpf := xpf) (xpr := xpr) (xrp := xrp) (xne := xne) (xs := xs) (xty := xty) (xcl := xcl) (xtl := xtl) (xds := xds) (xdl := xdl) (xva := xva) (xnm := xnm) (xns := xns) (xna := xna) (xnp := xnp) (yne := yne) (yie := yie) (yde := yde) (yfa := yfa) (yfs := yfs) (fo := fo) hsl hbl hin hit wk2 hG hbG hb hs
  obtain ⟨u0, u1, u2, u3, u4, u5, u6, u7, u8, u9, u10, u11, u12, u13, u14, u15, u16, u17, u18, u19, u20, u21, u22, u23, u24, u25, u26, u27, u28, u29, u30, u31⟩ := u'
  obtain ⟨v0, v1, v2, v3, v4, v5, v6, v7, v8, v9, v10, v11, v12, v13, v14, v15, v16, v17, v18, v19, v20, v21, v22, v23⟩ := v'
  refine ⟨r, _, _, hR, fun post hp => ?_, fun post hp => ?_⟩
  · unfold wX_addLink_81
    refine hX1 _ ?_
    exact hX _ hp
  · unfold wY_add_205
    refine hY1 _ ?_
    exact hY _ hp
def lt_ (x : Int32) : Prop := x = 2 ∨ x = 5 ∨ x = 12 ∨ x = 15
theorem x_26 {post : Int32 → SX → Prop} {sec : Nat} {p1 p2 p3 : Int32} (h1 : 1 ≤ sec) (h3 : sec < 4) (ht : lt_ p2) (h : wX_addLink_26 post (nI sec) p1 p2 p3 xca xli xtt xpf xbs xbi xwe xda xpc xis xpr xic xrp xne xsn xss xbu xst xse xpl xin xs xty xcl xtl xds xdl xva xnm xns xna xnp) : wpX_addLink post (xca, xli, xtt, xpf, xbs, xbi, xwe, xda, xpc, xis, xpr, xic, xrp, xne, xsn, xss, xbu, xst, xse, xpl, xin, xs, xty, xcl, xtl, xds, xdl, xva, xnm, xns, xna, xnp) (nI sec) p1 p2 p3 := by
  unfold wpX_addLink
  refine x_sec h1 h3 (br_f (by decide) ?_)
  rcases ht with e | e | e | e
  · subst e
    exact br_f (by decide) (br_t rfl (br_f (by decide) h))
  · subst e
    exact br_f (by decide) (br_f (by decide) (br_t rfl (br_f (by decide) h)))
  · subst e
    exact br_f (by decide) (br_f (by decide) (br_f (by decide) (br_t rfl (br_f (by decide) h))))
  · subst e
    exact br_t rfl h
theorem x_26n {post : Int32 → SX → Prop} {sec : Nat} {p1 p2 p3 : Int32} (h1 : 1 ≤ sec) (h3 : sec < 4) (ht : ¬ lt_ p2) (h : post (-1) (xca, xli, xtt, xpf, xbs, xbi, xwe, xda, xpc, xis, xpr, xic, xrp, xne, xsn, xss, xbu, xst, xse, xpl, xin, xs, xty, xcl, xtl, xds, xdl, xva, xnm, xns, xna, xnp)) : wpX_addLink post (xca, xli, xtt, xpf, xbs, xbi, xwe, xda, xpc, xis, xpr, xic, xrp, xne, xsn, xss, xbu, xst, xse, xpl, xin, xs, xty, xcl, xtl, xds, xdl, xva, xnm, xns, xna, xnp) (nI sec) p1 p2 p3 := by
  unfold wpX_addLink
  exact x_sec h1 h3 (br_f (by decide) (br_f (fun e => ht (Or.inr (Or.inr (Or.inr e)))) (br_f (fun e => ht (Or.inl e)) (br_f (fun e => ht (Or.inr (Or.inl e))) (br_f (fun e => ht (Or.inr (Or.inr (Or.inl e)))) (br_t rfl h))))))
theorem y_36 {post : Int32 → SY → Prop} {sec : Nat} {p1 p2 p3 : Int32} (h1 : 1 ≤ sec) (h3 : sec < 4) (ht : lt_ p2) (h : wY_addLink_36 post (nI sec) p1 p2 p3 yca yli ytt ypf ybs ybi yis ypr yic yne yie yde ysn yss ybu yst yse yps ypn yin yfa yfo yfs ynn) : wpY_addLink post (yca, yli, ytt, ypf, ybs, ybi, yis, ypr, yic, yne, yie, yde, ysn, yss, ybu, yst, yse, yps, ypn, yin, yfa, yfo, yfs, ynn) (nI sec) p1 p2 p3 := by
  refine sc_br h1 h3 ?_
  rcases ht with e | e | e | e
  · subst e
    exact br_t rfl h
  · subst e
    exact br_f (by decide) (br_t rfl h)
  · subst e
    exact br_f (by decide) (br_f (by decide) (br_t rfl h))
  · subst e
    exact br_f (by decide) (br_f (by decide) (br_f (by decide) (br_t rfl h)))
theorem y_36n {post : Int32 → SY → Prop} {sec : Nat} {p1 p2 p3 : Int32} (h1 : 1 ≤ sec) (h3 : sec < 4) (ht : ¬ lt_ p2) (h : post (-1) (yca, yli, ytt, ypf, ybs, ybi, yis, ypr, yic, yne, yie, yde, ysn, yss, ybu, yst, yse, yps, ypn, yin, yfa, yfo, yfs, ynn)) : wpY_addLink post (yca, yli, ytt, ypf, ybs, ybi, yis, ypr, yic, yne, yie, yde, ysn, yss, ybu, yst, yse, yps, ypn, yin, yfa, yfo, yfs, ynn) (nI sec) p1 p2 p3 :=
  sc_br h1 h3 (br_f (fun e => ht (Or.inl e)) (br_f (fun e => ht (Or.inr (Or.inl e))) (br_f (fun e => ht (Or.inr (Or.inr (Or.inl e)))) (br_f (fun e => ht (Or.inr (Or.inr (Or.inr e)))) h))))
theorem ns_br2 {x : Int32} {E F : Prop} (h : x < 0 ∨ nI 4 ≤ x) (a : E) : (x < 0 → E) ∧ (¬ x < 0 → ((3 < x → E) ∧ (¬ 3 < x → F))) := by
  rcases h with h | h
  · exact br_t h a
  · exact br_f (ge_4 h).1 (br_t (Int32.not_le.mp (ge_4 h).2) a)
theorem sl_br2 {s : Nat} {E F : Prop} (hs : s < 4) (a : F) : (nI s < 0 → E) ∧ (¬ nI s < 0 → ((3 < nI s → E) ∧ (¬ 3 < nI s → F))) :=
  br_f (nI_pos (by omega)) (br_f (nI_nlt (a := 3) (by omega) (by decide)) a)
theorem i_vc_addLink {k : Nat} {u : SX} {v : SY} (I : i_Rel k u v) (hk : k + 5 ≤ 2562) (v1 : Int32) (v2 : Int32) (v3 : Int32) (v4 : Int32) : wpX_addLink (fun r u' => wpY_addLink (fun r' v' => r' = r ∧ i_Rel (k + 5) u' v') v v1 v2 v3 v4) u v1 v2 v3 v4 := by
  refine I (fun u v => wpX_addLink (fun r u' => wpY_addLink (fun r' v' => r' = r ∧ i_Rel (k + 5) u' v') v v1 v2 v3 v4) u v1 v2 v3 v4) ?_
  intro cap lim bs bi pc z ic xtt xpf xwe xda xpr xrp xne yne yie yde A D sz B C st se PS PN P b fo xs xty xcl xds xdl xnm xns xna xnp yfs xtl xva yfa hsl hbl hin hit
  have R : i_Rel (k + 5) (nI cap, nI lim, xtt, xpf, nI bs, nI bi, xwe, xda, nI pc, nI z, xpr, nI ic, xrp, xne, ar_I A, ar_I sz, ar_I B, ar_I st, ar_I se, ar_I P, ar_I b, xs, xty, xcl, xtl, xds, xdl, xva, xnm, xns, xna, xnp) (nI cap, nI lim, xtt, xpf, nI bs, nI bi, nI z, xpr, nI ic, yne, yie, yde, ar_I D, ar_I sz, ar_I C, ar_I st, ar_I se, ar_I PS, ar_I PN, ar_I b, yfa, ar_I fo, yfs, 32768) := rl_mk hsl hbl hin hit
  refine lk_use (WX := fun post => wpX_addLink post (nI cap, nI lim, xtt, xpf, nI bs, nI bi, xwe, xda, nI pc, nI z, xpr, nI ic, xrp, xne, ar_I A, ar_I sz, ar_I B, ar_I st, ar_I se, ar_I P, ar_I b, xs, xty, xcl, xtl, xds, xdl, xva, xnm, xns, xna, xnp) v1 v2 v3 v4) (WY := fun post => wpY_addLink post (nI cap, nI lim, xtt, xpf, nI bs, nI bi, nI z, xpr, nI ic, yne, yie, yde, ar_I D, ar_I sz, ar_I C, ar_I st, ar_I se, ar_I PS, ar_I PN, ar_I b, yfa, ar_I fo, yfs, 32768) v1 v2 v3 v4) ?_
  have hl16 : lim ≤ 16 := hbl.2.2.2.1
  have hbl6 : bi ≤ lim := hbl.2.2.2.2.2.1
  have hbs : bs ≤ 255 := by have := hbl.2.1; have := hbl.2.2.2.2.1; omega
  have hla := la_3 hbl
  rcases sc_cs v1 with h | ⟨sec, hc1, hc, rfl⟩
  · refine ⟨-1, _, _, R, fun post hp => ?_, fun post hp => nc_br h hp⟩
    unfold wpX_addLink
    exact x_nsec h (br_t rfl hp)
  by_cases ht : lt_ v3
  case neg => exact ⟨-1, _, _, R, fun post hp => x_26n hc1 hc ht hp, fun post hp => y_36n hc1 hc ht hp⟩
  rcases sl_cs v2 with h | ⟨s, hs, rfl⟩
  · refine ⟨-2, _, _, R, fun post hp => x_26 hc1 hc ht ?_, fun post hp => y_36 hc1 hc ht (ns_br2 h hp)⟩
    unfold wX_addLink_26
    exact x_nslot h (br_t rfl hp)
  rcases sl_cs v4 with h | ⟨tg, hg, rfl⟩
  · refine ⟨-2, _, _, R, fun post hp => x_26 hc1 hc ht ?_, fun post hp => y_36 hc1 hc ht (sl_br2 hs (ns_br h hp))⟩
    unfold wX_addLink_26
    exact x_slot hs (br_f (by decide) (x_nslot h (br_t rfl hp)))
  by_cases d3 : sec < la_ se bi
  · refine ⟨-3, _, _, R, fun post hp => x_26 hc1 hc ht ?_, fun post hp => y_36 hc1 hc ht (sl_br2 hs (sl_br hg ?_))⟩
    · unfold wX_addLink_26
      refine x_slot hs (br_f (by decide) (x_slot hg (br_f (by decide) ?_)))
      exact x_open hc hl16 (by omega) hla (fun _ => br_f (by decide) hp) (fun y => by omega) (fun y => by omega)
    · exact y_add hc (by omega) hla (fun _ => hp) (fun y => by omega)
  by_cases d4 : lim ≤ bi
  · refine ⟨-4, _, _, R, fun post hp => x_26 hc1 hc ht ?_, fun post hp => y_36 hc1 hc ht (sl_br2 hs (sl_br hg ?_))⟩
    · unfold wX_addLink_26
      refine x_slot hs (br_f (by decide) (x_slot hg (br_f (by decide) ?_)))
      exact x_open hc hl16 (by omega) hla (fun y => by omega) (fun _ _ => br_f (by decide) hp) (fun _ y => by omega)
    · exact y_add hc (by omega) hla (fun y => by omega) (fun _ => br_f (nI_nlt d4 (by omega)) hp)
  obtain ⟨w1, B1, C1, PS1, PN1, P1, pc1, g1, g2, wk1, hX1, hY1⟩ := wk_wn (xca := nI cap) (xli := nI lim) (xtt := xtt) (xpf := xpf) (xbs := nI bs) (xbi := nI bi) (xda := xda) (xis := nI z) (xpr := xpr) (xic := nI ic) (xrp := xrp) (xne := xne) (xss := ar_I sz) (xst := ar_I st) (xse := ar_I se) (xin := ar_I b) (xs := xs) (xty := xty) (xcl := xcl) (xtl := xtl) (xds := xds) (xdl := xdl) (xva := xva) (xnm := xnm) (xns := xns) (xna := xna) (xnp := xnp) (yca := nI cap) (yli := nI lim) (ytt := xtt) (ypf := xpf) (ybs := nI bs) (ybi := nI bi) (yis := nI z) (ypr := xpr) (yic := nI ic) (yne := yne) (yie := yie) (yde := yde) (yst := ar_I st) (yse := ar_I se) (yin := ar_I b) (yfa := yfa) (yfo := ar_I fo) (yfs := yfs) hs hsl (wk_0 hbl) (by omega)
  have wk2 := wk_rh (ty := v3) (tt := xtt) wk1 (by omega)
  have n1 : ¬ v3 = 1 := by rcases ht with e | e | e | e <;> rw [e] <;> decide
  have n16 : ¬ v3 = 16 := by rcases ht with e | e | e | e <;> rw [e] <;> decide
  by_cases mx : v3 = 15
  · obtain ⟨r, u', v', hR, hX, hY⟩ := lk_81 (k := k) (xtt := xtt) (xpf := xpf) (xpr := xpr) (xrp := xrp) (xne := xne) (xs := xs) (xty := xty) (xcl := xcl) (xtl := xtl) (xds := xds) (xdl := xdl) (xva := xva) (xnm := xnm) (xns := xns) (xna := xna) (xnp := xnp) (yne := yne) (yie := yie) (yde := yde) (yfa := yfa) (yfs := yfs) (fo := fo) hsl hbl hin hit (wk_p2 (v := xpf) wk2 (by omega)) (by omega) (by omega) (by omega) (by omega) hc hg
    obtain ⟨u0, u1, u2, u3, u4, u5, u6, u7, u8, u9, u10, u11, u12, u13, u14, u15, u16, u17, u18, u19, u20, u21, u22, u23, u24, u25, u26, u27, u28, u29, u30, u31⟩ := u'
    obtain ⟨v0, v1, v2, v3, v4, v5, v6, v7, v8, v9, v10, v11, v12, v13, v14, v15, v16, v17, v18, v19, v20, v21, v22, v23⟩ := v'
    refine ⟨r, _, _, hR, fun post hp => x_26 hc1 hc ht ?_, fun post hp => y_36 hc1 hc ht (sl_br2 hs (sl_br hg ?_))⟩
    · unfold wX_addLink_26
      refine x_slot hs (br_f (by decide) (x_slot hg (br_f (by decide) ?_)))
      refine x_open hc hl16 (by omega) hla (fun y => by omega) (fun _ y => by omega) (fun _ _ => br_t rfl ?_)
      refine x_wrh (by omega) hX1 ?_
      refine br_t mx ?_
      refine x_p2 (by omega) ?_
      exact hX _ hp
    · refine y_add hc (by omega) hla (fun y => by omega) (fun _ => br_t (nI_lt (by omega) (by omega)) ?_)
      refine hY1 _ ?_
      refine y_p2 (by omega) ?_
      refine y_p2 (by omega) ?_
      refine br_f (nI_nle (by omega) (by omega)) ?_
      refine y_p4 (by omega) ?_
      refine nm_r (nI_add _ 2) (br_f n1 (br_f n16 (br_t mx ?_)))
      refine y_p2 (by omega) ?_
      exact hY _ hp
  · obtain ⟨r, u', v', hR, hX, hY⟩ := lk_81 (k := k) (xtt := xtt) (xpf := xpf) (xpr := xpr) (xrp := xrp) (xne := xne) (xs := xs) (xty := xty) (xcl := xcl) (xtl := xtl) (xds := xds) (xdl := xdl) (xva := xva) (xnm := xnm) (xns := xns) (xna := xna) (xnp := xnp) (yne := yne) (yie := yie) (yde := yde) (yfa := yfa) (yfs := yfs) (fo := fo) hsl hbl hin hit wk2 (by omega) (by omega) (by omega) (by omega) hc hg
    obtain ⟨u0, u1, u2, u3, u4, u5, u6, u7, u8, u9, u10, u11, u12, u13, u14, u15, u16, u17, u18, u19, u20, u21, u22, u23, u24, u25, u26, u27, u28, u29, u30, u31⟩ := u'
    obtain ⟨v0, v1, v2, v3, v4, v5, v6, v7, v8, v9, v10, v11, v12, v13, v14, v15, v16, v17, v18, v19, v20, v21, v22, v23⟩ := v'
    refine ⟨r, _, _, hR, fun post hp => x_26 hc1 hc ht ?_, fun post hp => y_36 hc1 hc ht (sl_br2 hs (sl_br hg ?_))⟩
    · unfold wX_addLink_26
      refine x_slot hs (br_f (by decide) (x_slot hg (br_f (by decide) ?_)))
      refine x_open hc hl16 (by omega) hla (fun y => by omega) (fun _ y => by omega) (fun _ _ => br_t rfl ?_)
      refine x_wrh (by omega) hX1 ?_
      refine br_f mx ?_
      exact hX _ hp
    · refine y_add hc (by omega) hla (fun y => by omega) (fun _ => br_t (nI_lt (by omega) (by omega)) ?_)
      refine hY1 _ ?_
      refine y_p2 (by omega) ?_
      refine y_p2 (by omega) ?_
      refine br_f (nI_nle (by omega) (by omega)) ?_
      refine y_p4 (by omega) ?_
      refine nm_r (nI_add _ 2) (br_f n1 (br_f n16 (br_f mx ?_)))
      exact hY _ hp
end ADD2
end
section
/-! numbers in the input -/
section INPUT
variable {xca xli xtt xpf xbs xbi xwe xda xpc xis xpr xic xrp xne : Int32} {xsn xss xbu xst xse xpl xin xs xty xcl : Nat → Int32} {xtl : Nat → Int64} {xds xdl : Nat → Int32} {xva : Nat → Int64} {xnm xns xna xnp : Nat → Int32}
variable {yca yli ytt ypf ybs ybi yis ypr yic yne yie yde : Int32} {ysn yss ybu yst yse yps ypn yin : Nat → Int32} {yfa : Nat → Int64} {yfo yfs : Nat → Int32} {ynn : Nat}
variable {b : Nat → Nat}
def t2_ (b : Nat → Nat) (a : Nat) : Nat := b a * 256 + b (a + 1)
def t4_ (b : Nat → Nat) (a : Nat) : Nat := t2_ b a * 65536 + t2_ b (a + 2)
theorem t2_lt {a : Nat} (hb : ∀ j, b j < 256) : t2_ b a < 65536 := by
  have h1 := hb a
  have h2 := hb (a + 1)
  unfold t2_
  omega
theorem x_two {post : Int32 → Prop} {a : Nat} {p : Int32} (hp : p = nI a) (ha : a + 2 ≤ 255) (hb : ∀ j, b j < 256) (h : post (nI (t2_ b a))) : wpX_inputTwo post (xca, xli, xtt, xpf, xbs, xbi, xwe, xda, xpc, xis, xpr, xic, xrp, xne, xsn, xss, xbu, xst, xse, xpl, ar_I b, xs, xty, xcl, xtl, xds, xdl, xva, xnm, xns, xna, xnp) p := by
  subst hp
  refine And.intro (vp_in_nI (by omega) (by decide)) (And.intro (pk_in (a + 1) 255 (by omega) (nI_1 a)) ?_)
  rw [ar_rd a, ar_rd (a + 1) (nI_1 a), bb_two (hb _) (hb _)]
  exact h
theorem x_four {post : Int64 → Prop} {a : Nat} {p : Int32} (hp : p = nI a) (ha : a + 4 ≤ 255) (hb : ∀ j, b j < 256) (h : post (lN (t4_ b a))) : wpX_inputFour post (xca, xli, xtt, xpf, xbs, xbi, xwe, xda, xpc, xis, xpr, xic, xrp, xne, xsn, xss, xbu, xst, xse, xpl, ar_I b, xs, xty, xcl, xtl, xds, xdl, xva, xnm, xns, xna, xnp) p := by
  subst hp
  unfold wpX_inputFour
  refine x_two rfl (by omega) hb ?_
  refine x_two (nI_add a 2) (by omega) hb ?_
  rw [bb_four (t2_lt hb) (t2_lt hb)]
  exact h
theorem nu_s {v c : Nat} (hc : c < 256) : lN v * 256 + (nI c).toInt64 = lN (v * 256 + c) := by
  rw [nI_l (by omega), show (256 : Int64) = lN 256 from rfl, lN_mul, lN_add]
theorem nu_0 {c : Nat} (hc : c < 256) : (0 : Int64) * 256 + (nI c).toInt64 = lN c := by
  have := nu_s (v := 0) hc
  rw [Nat.zero_mul, Nat.zero_add] at this
  exact this
theorem y_two {post : Int64 → Prop} {a : Nat} {p : Int32} (hp : p = nI a) (ha : a + 2 ≤ 255) (hb : ∀ j, b j < 256) (h : post (lN (t2_ b a))) : wpY_number post (yca, yli, ytt, ypf, ybs, ybi, yis, ypr, yic, yne, yie, yde, ysn, yss, ybu, yst, yse, yps, ypn, ar_I b, yfa, yfo, yfs, ynn) p 2 := by
  subst hp
  exact ⟨3, br_f (by decide) ⟨pk_in a 255 (by omega) (Int32.add_zero _), nm_r (e' := lN (b a)) (by rw [ar_rd a (Int32.add_zero _)]; exact nu_0 (hb a)) (nm_r (e' := 1) (by decide) (br_f (by decide) ⟨pk_in (a + 1) 255 (by omega) (nI_1 a), nm_r (e' := lN (t2_ b a)) (by rw [ar_rd (a + 1) (nI_1 a)]; exact nu_s (hb _)) (nm_r (e' := 2) (by decide) (br_t (by decide) h))⟩))⟩⟩
theorem t4_e (b : Nat → Nat) (a : Nat) : (t2_ b a * 256 + b (a + 2)) * 256 + b (a + 3) = t4_ b a := by
  unfold t4_ t2_
  rw [show a + 2 + 1 = a + 3 from rfl]
  omega
theorem na_2 (a : Nat) : nI a + 2 = nI (a + 2) := nI_add a 2
theorem na_3 (a : Nat) : nI a + 3 = nI (a + 3) := nI_add a 3
theorem y_four {post : Int64 → Prop} {a : Nat} {p : Int32} (hp : p = nI a) (ha : a + 4 ≤ 255) (hb : ∀ j, b j < 256) (h : post (lN (t4_ b a))) : wpY_number post (yca, yli, ytt, ypf, ybs, ybi, yis, ypr, yic, yne, yie, yde, ysn, yss, ybu, yst, yse, yps, ypn, ar_I b, yfa, yfo, yfs, ynn) p 4 := by
  subst hp
  exact ⟨5, br_f (by decide) ⟨pk_in a 255 (by omega) (Int32.add_zero _), nm_r (e' := lN (b a)) (by rw [ar_rd a (Int32.add_zero _)]; exact nu_0 (hb a)) (nm_r (e' := 1) (by decide)
    (br_f (by decide) ⟨pk_in (a + 1) 255 (by omega) (nI_1 a), nm_r (e' := lN (t2_ b a)) (by rw [ar_rd (a + 1) (nI_1 a)]; exact nu_s (hb _)) (nm_r (e' := 2) (by decide)
    (br_f (by decide) ⟨pk_in (a + 2) 255 (by omega) (nI_add a 2), nm_r (e' := lN (t2_ b a * 256 + b (a + 2))) (by rw [ar_rd (a + 2) (na_2 a)]; exact nu_s (hb _)) (nm_r (e' := 3) (by decide)
    (br_f (by decide) ⟨pk_in (a + 3) 255 (by omega) (nI_add a 3), nm_r (e' := lN (t4_ b a)) (by rw [ar_rd (a + 3) (na_3 a), nu_s (hb _), t4_e]) (nm_r (e' := 4) (by decide) (br_t (by decide) h))⟩))⟩))⟩))⟩⟩
end INPUT
end
section
/-! reading a name: one outcome for both sides -/
section READ
variable {xca xli xtt xpf xbs xbi xwe xda xpc xis xpr xic xrp xne : Int32} {xsn xss xbu xst xse xpl xin xs xty xcl : Nat → Int32} {xtl : Nat → Int64} {xds xdl : Nat → Int32} {xva : Nat → Int64} {xnm xns xna xnp : Nat → Int32}
variable {yca yli ytt ypf ybs ybi yis ypr yic yne yie yde : Int32} {ysn yss ybu yst yse yps ypn yin : Nat → Int32} {yfa : Nat → Int64} {yfo yfs : Nat → Int32} {ynn : Nat}
variable {b fo c : Nat → Nat}
def hc_ (c : Nat → Nat) (t : Nat) : Prop := ∀ (d : Nat → Nat) (m : Nat), (∀ j, j < t → d j = c j) → wn_ d t m → wn_ d 0 m
theorem hc_0 : hc_ c 0 := fun _ _ _ h => h
theorem hc_s {d : Nat → Nat} {t L : Nat} (h : hc_ c t) (hd : ∀ j, j < t → d j = c j) (hL : d t = L) (h1 : 1 ≤ L) (h2 : L < 64) : hc_ d (t + 1 + L) := by
  intro e m he hw
  refine h e m (fun j hj => (he j (by omega)).trans (hd j hj)) ?_
  have e1 : e t = L := (he t (by omega)).trans hL
  refine wn_is (by omega) (by omega) ?_
  rw [e1]
  exact hw
/-- what X's readName leaves -/
def rx_ (nm : Nat) (xnm xns xnp : Nat → Int32) (r : Int32) (m : Nat) (pt : Int32) (en : Nat) (c : Nat → Nat) (xne' : Int32) (xnm' xns' xnp' : Nat → Int32) : Prop :=
  (∀ j, (j < 64 * nm ∨ 64 * nm + 64 ≤ j) → xnm' j = xnm j) ∧ (∀ j, j ≠ nm → xns' j = xns j) ∧ (∀ j, j ≠ nm → xnp' j = xnp j) ∧
  (r = 0 → xne' = nI en ∧ (∀ j, j < m → xnm' (64 * nm + j) = nI (c j)) ∧ xns' nm = nI m ∧ xnp' nm = pt)
/-- what Y's readName leaves -/
def ry_ (s w : Nat) (yfa : Nat → Int64) (fo : Nat → Nat) (yfs : Nat → Int32) (r : Int32) (m : Nat) (pt : Int32) (en : Nat) (c : Nat → Nat) (yne' : Int32) (yfa' : Nat → Int64) (fo' : Nat → Nat) (yfs' : Nat → Int32) : Prop :=
  (∀ j, (j < 64 * w ∨ 64 * w + 64 ≤ j) → fo' j = fo j) ∧ (∀ j, j ≠ w → yfs' j = yfs j) ∧ (∀ j, j ≠ 7 + 2 * w → j ≠ 8 + 2 * w → yfa' j = yfa j) ∧
  (r = 0 → yne' = nI en ∧ (∀ j, j < m → fo' (64 * w + j) = c j) ∧ yfs' w = nI m ∧ yfa' (7 + 2 * w) = (nI s).toInt64 ∧ yfa' (8 + 2 * w) = pt.toInt64)
theorem rx_tr {nm : Nat} {xnm2 xns2 xnp2 : Nat → Int32} {r : Int32} {m : Nat} {pt : Int32} {en : Nat} {xne' : Int32} {xnm' xns' xnp' : Nat → Int32} (h1 : ∀ j, (j < 64 * nm ∨ 64 * nm + 64 ≤ j) → xnm2 j = xnm j) (h2 : ∀ j, j ≠ nm → xns2 j = xns j) (h3 : ∀ j, j ≠ nm → xnp2 j = xnp j)
    (h : rx_ nm xnm2 xns2 xnp2 r m pt en c xne' xnm' xns' xnp') : rx_ nm xnm xns xnp r m pt en c xne' xnm' xns' xnp' :=
  ⟨fun j hj => (h.1 j hj).trans (h1 j hj), fun j hj => (h.2.1 j hj).trans (h2 j hj), fun j hj => (h.2.2.1 j hj).trans (h3 j hj), h.2.2.2⟩
theorem ry_tr {s w : Nat} {fo2 : Nat → Nat} {r : Int32} {m : Nat} {pt : Int32} {en : Nat} {yne' : Int32} {yfa' : Nat → Int64} {fo' : Nat → Nat} {yfs' : Nat → Int32} (h1 : ∀ j, (j < 64 * w ∨ 64 * w + 64 ≤ j) → fo2 j = fo j)
    (h : ry_ s w yfa fo2 yfs r m pt en c yne' yfa' fo' yfs') : ry_ s w yfa fo yfs r m pt en c yne' yfa' fo' yfs' :=
  ⟨fun j hj => (h.1 j hj).trans (h1 j hj), h.2⟩
theorem rx_no {nm : Nat} {r : Int32} {m : Nat} {pt : Int32} {en : Nat} {xne' : Int32} (hr : ¬ r = 0) : rx_ nm xnm xns xnp r m pt en c xne' xnm xns xnp :=
  ⟨fun _ _ => rfl, fun _ _ => rfl, fun _ _ => rfl, fun e => absurd e hr⟩
theorem ry_no {s w : Nat} {r : Int32} {m : Nat} {pt : Int32} {en : Nat} {yne' : Int32} (hr : ¬ r = 0) : ry_ s w yfa fo yfs r m pt en c yne' yfa fo yfs :=
  ⟨fun _ _ => rfl, fun _ _ => rfl, fun _ _ _ => rfl, fun e => absurd e hr⟩
theorem x_244 {post : Int32 → SX → Prop} {J : Int32 → Int32 → Int32 → Int32 → Int32 → (Nat → Int32) → (Nat → Int32) → (Nat → Int32) → (Nat → Int32) → (Nat → Int32) → (Nat → Int32) → (Nat → Int32) → (Nat → Int32) → (Nat → Int32) → (Nat → Int32) → (Nat → Int64) → (Nat → Int32) → (Nat → Int32) → (Nat → Int64) → (Nat → Int32) → (Nat → Int32) → (Nat → Int32) → (Nat → Int32) → Prop}
    {x2 x5 : Int32} {nm q t x L : Nat} (hnm : nm < 32) (hq : q + 1 + L ≤ 255) (ht : t + 1 + L ≤ 63)
    (hJ : J (nI (q + 1 + L)) x5 (nI (t + 1 + L)) (nI (x + 1)) xne xsn xss xbu xst xse xpl (ar_I b) xs xty xcl xtl xds xdl xva (ar_bw xnm (64 * nm + t) (fun i => nI (b (q + i))) (L + 1)) xns xna xnp) :
    ∀ d i n, i + d = L + 1 → d < n → wX_readName_244 post J x2 (nI (64 * nm)) (nI q) x5 (nI t) (nI x) (nI L) xca xli xtt xpf xbs xbi xwe xda xpc xis xpr xic xrp xne n (nI i) xsn xss xbu xst xse xpl (ar_I b) xs xty xcl xtl xds xdl xva (ar_bw xnm (64 * nm + t) (fun i => nI (b (q + i))) i) xns xna xnp := by
  intro d
  induction d with
  | zero =>
    intro i n h1 h2
    obtain ⟨n, rfl⟩ : ∃ m, n = m + 1 := ⟨n - 1, by omega⟩
    have e : i = L + 1 := by omega
    subst e
    exact br_t (nI_lt (by omega) (by omega)) (nm_r (ix_p t L) (nm_r (ix_p q L) (nm_r (nI_1 x) hJ)))
  | succ d ih =>
    intro i n h1 h2
    obtain ⟨n, rfl⟩ : ∃ m, n = m + 1 := ⟨n - 1, by omega⟩
    have e1 : nI (64 * nm) + nI t + nI i = nI (64 * nm + t + i) := by rw [nI_add, nI_add]
    have K := ih (i + 1) n (by omega) (by omega)
    rw [← ar_bT] at K
    refine br_f (nI_nlt (by omega) (by omega)) ⟨pk_in (q + i) 255 (by omega) (nI_add q i), pk_in (64 * nm + t + i) 2048 (by omega) e1, nm_r (e' := upd (ar_bw xnm (64 * nm + t) (fun i => nI (b (q + i))) i) (64 * nm + t + i) (nI (b (q + i)))) ?_ (nm_r (nI_1 i) K)⟩
    rw [ar_sI (64 * nm + t + i) e1, ar_rd (q + i) (nI_add q i)]
theorem y_245 {post : Int32 → SY → Prop} {J : Int32 → Int32 → Int32 → Int32 → Int32 → Int32 → (Nat → Int32) → (Nat → Int32) → (Nat → Int32) → (Nat → Int32) → (Nat → Int32) → (Nat → Int32) → (Nat → Int32) → (Nat → Int32) → (Nat → Int64) → (Nat → Int32) → (Nat → Int32) → Prop}
    {x1 x4 x6 : Int32} {w q t x L : Nat} (hw : w < 2) (hq : q + 1 + L ≤ 255) (ht : t + 1 + L ≤ 63)
    (hJ : J (nI (q + 1 + L)) x4 (nI (t + 1 + L)) x6 (nI (x + 1)) yne ysn yss ybu yst yse yps ypn (ar_I b) yfa (ar_I (ar_bw fo (64 * w + t) (fun i => b (q + i)) (L + 1))) yfs) :
    ∀ d i n, i + d = L + 1 → d < n → wY_readName_245 post J x1 (nI w) (nI q) x4 (nI t) x6 (nI x) (nI L) yca yli ytt ypf ybs ybi yis ypr yic yne yie yde ynn n (nI i) ysn yss ybu yst yse yps ypn (ar_I b) yfa (ar_I (ar_bw fo (64 * w + t) (fun i => b (q + i)) i)) yfs := by
  intro d
  induction d with
  | zero =>
    intro i n h1 h2
    obtain ⟨n, rfl⟩ : ∃ m, n = m + 1 := ⟨n - 1, by omega⟩
    have e : i = L + 1 := by omega
    subst e
    exact br_t (nI_lt (by omega) (by omega)) (nm_r (ix_p t L) (nm_r (ix_p q L) (nm_r (nI_1 x) hJ)))
  | succ d ih =>
    intro i n h1 h2
    obtain ⟨n, rfl⟩ : ∃ m, n = m + 1 := ⟨n - 1, by omega⟩
    have K := ih (i + 1) n (by omega) (by omega)
    rw [← ar_bS] at K
    exact br_f (nI_nlt (by omega) (by omega)) ⟨pk_in (q + i) 255 (by omega) (nI_add q i), pk_in (64 * w + t + i) 128 (by omega) (ix_c w t i), nm_r (ar_st (64 * w + t + i) (b (q + i)) (ix_c w t i) (ar_rd (q + i) (nI_add q i))) (nm_r (nI_1 i) K)⟩
end READ
end
section
/-! readName: the loop, both sides -/
section NAME
variable {xca xli xtt xpf xbs xbi xwe xda xpc xis xpr xic xrp xne : Int32} {xsn xss xbu xst xse xpl xin xs xty xcl : Nat → Int32} {xtl : Nat → Int64} {xds xdl : Nat → Int32} {xva : Nat → Int64} {xnm xns xna xnp : Nat → Int32}
variable {yca yli ytt ypf ybs ybi yis ypr yic yne yie yde : Int32} {ysn yss ybu yst yse yps ypn yin : Nat → Int32} {yfa : Nat → Int64} {yfo yfs : Nat → Int32} {ynn : Nat}
variable {b fo c : Nat → Nat}
theorem y_58 {post : Int32 → SY → Prop} {s w t : Nat} {pt : Int32} (hw : w < 2) (ht : t ≤ 63) (h : post 0 (yca, yli, ytt, ypf, ybs, ybi, yis, ypr, yic, yne, yie, yde, ysn, yss, ybu, yst, yse, yps, ypn, yin, vp_updL (vp_updL yfa (7 + 2 * w) (nI s).toInt64) (8 + 2 * w) pt.toInt64, ar_I (ar_u fo (64 * w + t) 0), upd yfs w (nI (t + 1)), ynn)) : wY_readName_58 post (nI s) (nI w) (nI t) pt yca yli ytt ypf ybs ybi yis ypr yic yne yie yde ysn yss ybu yst yse yps ypn yin yfa (ar_I fo) yfs ynn := by
  have e7 : 7 + 2 * nI w = nI (7 + 2 * w) := by rw [ix_2]; exact nI_add 7 _
  have e8 : 8 + 2 * nI w = nI (8 + 2 * w) := by rw [ix_2]; exact nI_add 8 _
  exact And.intro (pk_in (64 * w + t) 128 (by omega) (ix_b w t)) (nm_r (ar_st (64 * w + t) 0 (ix_b w t)) ⟨vp_in_nI hw (by decide), nm_r (e' := upd yfs w (nI (t + 1))) (by rw [ar_sI w, nI_1]) ⟨pk_in (7 + 2 * w) 11 (by omega) e7, nm_r (ar_sL (7 + 2 * w) e7) ⟨pk_in (8 + 2 * w) 11 (by omega) e8, nm_r (ar_sL (8 + 2 * w) e8) h⟩⟩⟩)
theorem ry_58 {s w t en : Nat} {pt yne' : Int32} (hf : ∀ j, j < t → fo (64 * w + j) = c j) (ht : t ≤ 63) (he : yne' = nI en) : ry_ s w yfa fo yfs 0 (t + 1) pt en (ar_u c t 0) yne' (vp_updL (vp_updL yfa (7 + 2 * w) (nI s).toInt64) (8 + 2 * w) pt.toInt64) (ar_u fo (64 * w + t) 0) (upd yfs w (nI (t + 1))) := by
  refine ⟨fun j hj => ar_un (by omega), fun j hj => pk_un hj, fun j h7 h8 => by rw [pk_uLn h8, pk_uLn h7], fun _ => ⟨he, fun j hj => ?_, pk_us, by rw [pk_uLn (by omega), pk_uLs], pk_uLs⟩⟩
  by_cases z : j = t
  · rw [z, ar_us, ar_us]
  · rw [ar_un z, ar_un (by omega)]
    exact hf j (by omega)
theorem rx_58 {nm t en : Nat} {pt xne' : Int32} (hf : ∀ j, j < t → xnm (64 * nm + j) = nI (c j)) (ht : t ≤ 63) (hp : xnp nm = pt) (he : xne' = nI en) : rx_ nm xnm xns xnp 0 (t + 1) pt en (ar_u c t 0) xne' (upd xnm (64 * nm + t) 0) (upd xns nm (nI (t + 1))) xnp := by
  refine ⟨fun j hj => pk_un (by omega), fun j hj => pk_un hj, fun _ _ => rfl, fun _ => ⟨he, fun j hj => ?_, pk_us, hp⟩⟩
  by_cases z : j = t
  · rw [z, ar_us, pk_us]; rfl
  · rw [ar_un z, pk_un (by omega)]
    exact hf j (by omega)
theorem nf_58 {t : Nat} (hc : hc_ c t) (hb : ∀ j, j < t → c j < 256) (ht : t ≤ 63) : nf_ (t + 1) (ar_u c t 0) := by
  refine ⟨by omega, fun j hj => ?_, hc _ _ (fun j hj => ar_un (by omega)) (wn_i0 ar_us)⟩
  by_cases z : j = t
  · rw [z, ar_us]; decide
  · rw [ar_un z]; exact hb j (by omega)
theorem rn_lp {z nm s : Nat} (hz : z ≤ 255) (hb : ∀ j, b j < 256) (hnm : nm < 32) : ∀ M q run t (pt : Int32) (e : Nat) (c : Nat → Nat), run + (63 - t) < M → t ≤ 63 → run ≤ 255 → q ≤ 600 → hc_ c t → (∀ j, j < t → c j < 256) → (¬ pt = -1 → e ≤ z) →
    ∃ (r : Int32) (m : Nat) (pt' : Int32) (en : Nat) (c' : Nat → Nat), (r = 0 → nf_ m c' ∧ en ≤ z) ∧
      (∀ (xca xli xtt xpf xbs xbi xwe xda xpc xpr xic xrp xne : Int32) (xsn xss xbu xst xse xpl xs xty xcl : Nat → Int32) (xtl : Nat → Int64) (xds xdl : Nat → Int32) (xva : Nat → Int64) (xnm xns xna xnp : Nat → Int32) (n x : Nat) (post : Int32 → SX → Prop), M ≤ n → x + M ≤ 400 → (∀ j, j < t → xnm (64 * nm + j) = nI (c j)) → xnp nm = pt → (¬ pt = -1 → xne = nI e) →
        (∀ (xne' : Int32) (xnm' xns' xnp' : Nat → Int32), rx_ nm xnm xns xnp r m pt' en c' xne' xnm' xns' xnp' → post r (xca, xli, xtt, xpf, xbs, xbi, xwe, xda, xpc, nI z, xpr, xic, xrp, xne', xsn, xss, xbu, xst, xse, xpl, ar_I b, xs, xty, xcl, xtl, xds, xdl, xva, xnm', xns', xna, xnp')) →
        wX_readName_31 post (nI nm) (nI (64 * nm)) xca xli xtt xpf xbs xbi xwe xda xpc (nI z) xpr xic xrp n (nI q) (nI run) (nI t) (nI x) xne xsn xss xbu xst xse xpl (ar_I b) xs xty xcl xtl xds xdl xva xnm xns xna xnp) ∧
      (∀ (yca yli ytt ypf ybs ybi ypr yic yne yie yde : Int32) (ysn yss ybu yst yse yps ypn : Nat → Int32) (yfa : Nat → Int64) (yfs : Nat → Int32) (ynn : Nat) (fo : Nat → Nat) (w n x : Nat) (post : Int32 → SY → Prop), w < 2 → M ≤ n → x + M ≤ 400 → (∀ j, j < t → fo (64 * w + j) = c j) → (¬ pt = -1 → yne = nI e) →
        (∀ (yne' : Int32) (yfa' : Nat → Int64) (fo' : Nat → Nat) (yfs' : Nat → Int32), ry_ s w yfa fo yfs r m pt' en c' yne' yfa' fo' yfs' → post r (yca, yli, ytt, ypf, ybs, ybi, nI z, ypr, yic, yne', yie, yde, ysn, yss, ybu, yst, yse, yps, ypn, ar_I b, yfa', ar_I fo', yfs', ynn)) →
        wY_readName_14 post (nI s) (nI w) yca yli ytt ypf ybs ybi (nI z) ypr yic yie yde ynn n (nI q) (nI run) (nI t) pt (nI x) yne ysn yss ybu yst yse yps ypn (ar_I b) yfa (ar_I fo) yfs) := by
  intro M
  induction M with
  | zero => intro q run t pt e c h; omega
  | succ M ih =>
    intro q run t pt e c h1 h2 h3 h4 h5 h6 h7
    by_cases cA : z ≤ q
    · refine ⟨4, 0, 0, 0, c, fun e => absurd e (by decide), ?_, ?_⟩
      · intro xca xli xtt xpf xbs xbi xwe xda xpc xpr xic xrp xne xsn xss xbu xst xse xpl xs xty xcl xtl xds xdl xva xnm xns xna xnp n x post k1 k2 k3 k4 k5 hp
        obtain ⟨n, rfl⟩ : ∃ m, n = m + 1 := ⟨n - 1, by omega⟩
        exact br_f (nI_ge (b := 512) (by omega) (by decide)) (br_f (nI_nlt cA (by omega)) (hp _ _ _ _ (rx_no (by decide))))
      · intro yca yli ytt ypf ybs ybi ypr yic yne yie yde ysn yss ybu yst yse yps ypn yfa yfs ynn fo w n x post k0 k1 k2 k3 k5 hp
        obtain ⟨n, rfl⟩ : ∃ m, n = m + 1 := ⟨n - 1, by omega⟩
        exact br_f (nI_ge (b := 400) (by omega) (by decide)) (br_f (nI_nlt cA (by omega)) (hp _ _ _ _ (ry_no (by decide))))
    have hbq := hb q
    have lt1 : nI q < nI z := nI_lt (by omega) (by omega)
    have in1 : vp_in (nI q) 255 := vp_in_nI (by omega) (by decide)
    by_cases cB : b q = 0
    · by_cases hpt : pt = -1
      · refine ⟨0, t + 1, pt, q + 1, ar_u c t 0, fun _ => ⟨nf_58 h5 h6 h2, by omega⟩, ?_, ?_⟩
        · intro xca xli xtt xpf xbs xbi xwe xda xpc xpr xic xrp xne xsn xss xbu xst xse xpl xs xty xcl xtl xds xdl xva xnm xns xna xnp n x post k1 k2 k3 k4 k5 hp
          obtain ⟨n, rfl⟩ : ∃ m, n = m + 1 := ⟨n - 1, by omega⟩
          exact br_f (nI_ge (b := 512) (by omega) (by decide)) (br_t lt1 ⟨in1, nm_r (e' := 0) (by rw [ar_rd q, cB]; rfl) (br_t rfl ⟨pk_in (64 * nm + t) 2048 (by omega) (nI_add _ _), nm_r (ar_sI (64 * nm + t) (nI_add _ _)) ⟨vp_in_nI hnm (by decide), nm_r (e' := upd xns nm (nI (t + 1))) (by rw [ar_sI nm, nI_1]) ⟨vp_in_nI hnm (by decide), br_t (by rw [nI_clamp (by omega), k4]; exact hpt) (nm_r (nI_1 q) (hp _ _ _ _ (rx_58 k3 h2 k4 rfl)))⟩⟩⟩)⟩)
        · intro yca yli ytt ypf ybs ybi ypr yic yne yie yde ysn yss ybu yst yse yps ypn yfa yfs ynn fo w n x post k0 k1 k2 k3 k5 hp
          obtain ⟨n, rfl⟩ : ∃ m, n = m + 1 := ⟨n - 1, by omega⟩
          exact br_f (nI_ge (b := 400) (by omega) (by decide)) (br_t lt1 ⟨in1, nm_r (e' := 0) (by rw [ar_rd q, cB]; rfl) (br_t rfl (br_t hpt (nm_r (nI_1 q) (y_58 k0 h2 (hp _ _ _ _ (ry_58 k3 h2 rfl))))))⟩)
      · refine ⟨0, t + 1, pt, e, ar_u c t 0, fun _ => ⟨nf_58 h5 h6 h2, h7 hpt⟩, ?_, ?_⟩
        · intro xca xli xtt xpf xbs xbi xwe xda xpc xpr xic xrp xne xsn xss xbu xst xse xpl xs xty xcl xtl xds xdl xva xnm xns xna xnp n x post k1 k2 k3 k4 k5 hp
          obtain ⟨n, rfl⟩ : ∃ m, n = m + 1 := ⟨n - 1, by omega⟩
          exact br_f (nI_ge (b := 512) (by omega) (by decide)) (br_t lt1 ⟨in1, nm_r (e' := 0) (by rw [ar_rd q, cB]; rfl) (br_t rfl ⟨pk_in (64 * nm + t) 2048 (by omega) (nI_add _ _), nm_r (ar_sI (64 * nm + t) (nI_add _ _)) ⟨vp_in_nI hnm (by decide), nm_r (e' := upd xns nm (nI (t + 1))) (by rw [ar_sI nm, nI_1]) ⟨vp_in_nI hnm (by decide), br_f (by rw [nI_clamp (by omega), k4]; exact hpt) (hp _ _ _ _ (rx_58 k3 h2 k4 (k5 hpt)))⟩⟩⟩)⟩)
        · intro yca yli ytt ypf ybs ybi ypr yic yne yie yde ysn yss ybu yst yse yps ypn yfa yfs ynn fo w n x post k0 k1 k2 k3 k5 hp
          obtain ⟨n, rfl⟩ : ∃ m, n = m + 1 := ⟨n - 1, by omega⟩
          exact br_f (nI_ge (b := 400) (by omega) (by decide)) (br_t lt1 ⟨in1, nm_r (e' := 0) (by rw [ar_rd q, cB]; rfl) (br_t rfl (br_f hpt (y_58 k0 h2 (hp _ _ _ _ (ry_58 k3 h2 (k5 hpt))))))⟩)
    have n0 : ¬ nI (b q) = 0 := fun y => cB ((nI_i0 (by omega)).mp y)
    by_cases cC : 192 ≤ b q
    · have a1 : ¬ nI (b q) < 192 := nI_nlt (b := 192) cC (by omega)
      have a2 : ¬ nI (b q) < 64 := nI_nlt (b := 64) (by omega) (by omega)
      have a3 : (191 : Int32) < nI (b q) := nI_lt (a := 191) (by omega) (by omega)
      by_cases cC1 : z ≤ q + 1
      · have a4 : ¬ nI q + 1 < nI z := by rw [nI_1]; exact nI_nlt cC1 (by omega)
        refine ⟨4, 0, 0, 0, c, fun e => absurd e (by decide), ?_, ?_⟩
        · intro xca xli xtt xpf xbs xbi xwe xda xpc xpr xic xrp xne xsn xss xbu xst xse xpl xs xty xcl xtl xds xdl xva xnm xns xna xnp n x post k1 k2 k3 k4 k5 hp
          obtain ⟨n, rfl⟩ : ∃ m, n = m + 1 := ⟨n - 1, by omega⟩
          exact br_f (nI_ge (b := 512) (by omega) (by decide)) (br_t lt1 ⟨in1, nm_r (ar_rd q) (br_f n0 (br_f a1 (br_f a4 (hp _ _ _ _ (rx_no (by decide))))))⟩)
        · intro yca yli ytt ypf ybs ybi ypr yic yne yie yde ysn yss ybu yst yse yps ypn yfa yfs ynn fo w n x post k0 k1 k2 k3 k5 hp
          obtain ⟨n, rfl⟩ : ∃ m, n = m + 1 := ⟨n - 1, by omega⟩
          exact br_f (nI_ge (b := 400) (by omega) (by decide)) (br_t lt1 ⟨in1, nm_r (ar_rd q) (br_f n0 (br_f a2 (br_t a3 (br_f a1 (br_f a4 (hp _ _ _ _ (ry_no (by decide))))))))⟩)
      have a4 : nI q + 1 < nI z := by rw [nI_1]; exact nI_lt (by omega) (by omega)
      have in2 : vp_in (nI q + 1) 255 := pk_in (q + 1) 255 (by omega) (nI_1 q)
      have hb2 := hb (q + 1)
      obtain ⟨tg, htg⟩ : ∃ tg, tg = (b q - 192) * 256 + b (q + 1) := ⟨_, rfl⟩
      have eT : (nI (b q) - 192) * 256 + ar_I b (nI q + 1).toNatClampNeg = nI tg := by
        rw [ar_rd (q + 1) (nI_1 q), show nI (b q) - 192 = nI (b q - 192) from pk_sub (b := 192) cC, show nI (b q - 192) * 256 = nI ((b q - 192) * 256) from pk_mul _ 256, nI_add, htg]
      by_cases cC2 : tg < 12
      · have a5 : nI tg < 12 := nI_lt (b := 12) cC2 (by decide)
        refine ⟨6, 0, 0, 0, c, fun e => absurd e (by decide), ?_, ?_⟩
        · intro xca xli xtt xpf xbs xbi xwe xda xpc xpr xic xrp xne xsn xss xbu xst xse xpl xs xty xcl xtl xds xdl xva xnm xns xna xnp n x post k1 k2 k3 k4 k5 hp
          obtain ⟨n, rfl⟩ : ∃ m, n = m + 1 := ⟨n - 1, by omega⟩
          exact br_f (nI_ge (b := 512) (by omega) (by decide)) (br_t lt1 ⟨in1, nm_r (ar_rd q) (br_f n0 (br_f a1 (br_t a4 ⟨in2, nm_r eT (br_t a5 (hp _ _ _ _ (rx_no (by decide))))⟩)))⟩)
        · intro yca yli ytt ypf ybs ybi ypr yic yne yie yde ysn yss ybu yst yse yps ypn yfa yfs ynn fo w n x post k0 k1 k2 k3 k5 hp
          obtain ⟨n, rfl⟩ : ∃ m, n = m + 1 := ⟨n - 1, by omega⟩
          exact br_f (nI_ge (b := 400) (by omega) (by decide)) (br_t lt1 ⟨in1, nm_r (ar_rd q) (br_f n0 (br_f a2 (br_t a3 (br_f a1 (br_t a4 ⟨in2, nm_r eT (br_t a5 (hp _ _ _ _ (ry_no (by decide))))⟩)))))⟩)
      have a5 : ¬ nI tg < 12 := nI_nlt (b := 12) (by omega) (by omega)
      by_cases cC3 : run ≤ tg
      · have a6 : ¬ nI tg < nI run := nI_nlt cC3 (by omega)
        refine ⟨6, 0, 0, 0, c, fun e => absurd e (by decide), ?_, ?_⟩
        · intro xca xli xtt xpf xbs xbi xwe xda xpc xpr xic xrp xne xsn xss xbu xst xse xpl xs xty xcl xtl xds xdl xva xnm xns xna xnp n x post k1 k2 k3 k4 k5 hp
          obtain ⟨n, rfl⟩ : ∃ m, n = m + 1 := ⟨n - 1, by omega⟩
          exact br_f (nI_ge (b := 512) (by omega) (by decide)) (br_t lt1 ⟨in1, nm_r (ar_rd q) (br_f n0 (br_f a1 (br_t a4 ⟨in2, nm_r eT (br_f a5 (br_f a6 (hp _ _ _ _ (rx_no (by decide)))))⟩)))⟩)
        · intro yca yli ytt ypf ybs ybi ypr yic yne yie yde ysn yss ybu yst yse yps ypn yfa yfs ynn fo w n x post k0 k1 k2 k3 k5 hp
          obtain ⟨n, rfl⟩ : ∃ m, n = m + 1 := ⟨n - 1, by omega⟩
          exact br_f (nI_ge (b := 400) (by omega) (by decide)) (br_t lt1 ⟨in1, nm_r (ar_rd q) (br_f n0 (br_f a2 (br_t a3 (br_f a1 (br_t a4 ⟨in2, nm_r eT (br_f a5 (br_f a6 (hp _ _ _ _ (ry_no (by decide)))))⟩)))))⟩)
      have a6 : nI tg < nI run := nI_lt (by omega) (by omega)
      by_cases hpt : pt = -1
      · obtain ⟨r, m, pt', en, c', hf, hX, hY⟩ := ih tg tg t (nI tg) (q + 2) c (by omega) h2 (by omega) (by omega) h5 h6 (fun _ => by omega)
        refine ⟨r, m, pt', en, c', hf, ?_, ?_⟩
        · intro xca xli xtt xpf xbs xbi xwe xda xpc xpr xic xrp xne xsn xss xbu xst xse xpl xs xty xcl xtl xds xdl xva xnm xns xna xnp n x post k1 k2 k3 k4 k5 hp
          obtain ⟨n, rfl⟩ : ∃ m, n = m + 1 := ⟨n - 1, by omega⟩
          refine br_f (nI_ge (b := 512) (by omega) (by decide)) (br_t lt1 ⟨in1, nm_r (ar_rd q) (br_f n0 (br_f a1 (br_t a4 ⟨in2, nm_r eT (br_f a5 (br_t a6 ⟨vp_in_nI hnm (by decide), br_t (by rw [nI_clamp (by omega), k4]; exact hpt) ⟨vp_in_nI hnm (by decide), nm_r (ar_sI nm) (nm_r (na_2 q) (nm_r (nI_1 x) ?_))⟩⟩))⟩)))⟩)
          exact hX xca xli xtt xpf xbs xbi xwe xda xpc xpr xic xrp (nI (q + 2)) xsn xss xbu xst xse xpl xs xty xcl xtl xds xdl xva xnm xns xna (upd xnp nm (nI tg)) n (x + 1) post (by omega) (by omega) k3 pk_us (fun _ => rfl) (fun _ _ _ _ hr => hp _ _ _ _ (rx_tr (fun _ _ => rfl) (fun _ _ => rfl) (fun j hj => pk_un hj) hr))
        · intro yca yli ytt ypf ybs ybi ypr yic yne yie yde ysn yss ybu yst yse yps ypn yfa yfs ynn fo w n x post k0 k1 k2 k3 k5 hp
          obtain ⟨n, rfl⟩ : ∃ m, n = m + 1 := ⟨n - 1, by omega⟩
          refine br_f (nI_ge (b := 400) (by omega) (by decide)) (br_t lt1 ⟨in1, nm_r (ar_rd q) (br_f n0 (br_f a2 (br_t a3 (br_f a1 (br_t a4 ⟨in2, nm_r eT (br_f a5 (br_t a6 (br_t hpt (nm_r (na_2 q) (nm_r (nI_1 x) ?_)))))⟩)))))⟩)
          exact hY yca yli ytt ypf ybs ybi ypr yic (nI (q + 2)) yie yde ysn yss ybu yst yse yps ypn yfa yfs ynn fo w n (x + 1) post k0 (by omega) (by omega) k3 (fun _ => rfl) hp
      · obtain ⟨r, m, pt', en, c', hf, hX, hY⟩ := ih tg tg t pt e c (by omega) h2 (by omega) (by omega) h5 h6 h7
        refine ⟨r, m, pt', en, c', hf, ?_, ?_⟩
        · intro xca xli xtt xpf xbs xbi xwe xda xpc xpr xic xrp xne xsn xss xbu xst xse xpl xs xty xcl xtl xds xdl xva xnm xns xna xnp n x post k1 k2 k3 k4 k5 hp
          obtain ⟨n, rfl⟩ : ∃ m, n = m + 1 := ⟨n - 1, by omega⟩
          refine br_f (nI_ge (b := 512) (by omega) (by decide)) (br_t lt1 ⟨in1, nm_r (ar_rd q) (br_f n0 (br_f a1 (br_t a4 ⟨in2, nm_r eT (br_f a5 (br_t a6 ⟨vp_in_nI hnm (by decide), br_f (by rw [nI_clamp (by omega), k4]; exact hpt) (nm_r (nI_1 x) ?_)⟩))⟩)))⟩)
          exact hX xca xli xtt xpf xbs xbi xwe xda xpc xpr xic xrp xne xsn xss xbu xst xse xpl xs xty xcl xtl xds xdl xva xnm xns xna xnp n (x + 1) post (by omega) (by omega) k3 k4 k5 hp
        · intro yca yli ytt ypf ybs ybi ypr yic yne yie yde ysn yss ybu yst yse yps ypn yfa yfs ynn fo w n x post k0 k1 k2 k3 k5 hp
          obtain ⟨n, rfl⟩ : ∃ m, n = m + 1 := ⟨n - 1, by omega⟩
          refine br_f (nI_ge (b := 400) (by omega) (by decide)) (br_t lt1 ⟨in1, nm_r (ar_rd q) (br_f n0 (br_f a2 (br_t a3 (br_f a1 (br_t a4 ⟨in2, nm_r eT (br_f a5 (br_t a6 (br_f hpt (nm_r (nI_1 x) ?_))))⟩)))))⟩)
          exact hY yca yli ytt ypf ybs ybi ypr yic yne yie yde ysn yss ybu yst yse yps ypn yfa yfs ynn fo w n (x + 1) post k0 (by omega) (by omega) k3 k5 hp
    have a1 : nI (b q) < 192 := nI_lt (b := 192) (by omega) (by decide)
    by_cases cD : 64 ≤ b q
    · have a2 : ¬ nI (b q) < 64 := nI_nlt (b := 64) cD (by omega)
      have a3 : ¬ (191 : Int32) < nI (b q) := nI_nlt (a := 191) (by omega) (by decide)
      refine ⟨5, 0, 0, 0, c, fun e => absurd e (by decide), ?_, ?_⟩
      · intro xca xli xtt xpf xbs xbi xwe xda xpc xpr xic xrp xne xsn xss xbu xst xse xpl xs xty xcl xtl xds xdl xva xnm xns xna xnp n x post k1 k2 k3 k4 k5 hp
        obtain ⟨n, rfl⟩ : ∃ m, n = m + 1 := ⟨n - 1, by omega⟩
        exact br_f (nI_ge (b := 512) (by omega) (by decide)) (br_t lt1 ⟨in1, nm_r (ar_rd q) (br_f n0 (br_t a1 (br_f a2 (hp _ _ _ _ (rx_no (by decide))))))⟩)
      · intro yca yli ytt ypf ybs ybi ypr yic yne yie yde ysn yss ybu yst yse yps ypn yfa yfs ynn fo w n x post k0 k1 k2 k3 k5 hp
        obtain ⟨n, rfl⟩ : ∃ m, n = m + 1 := ⟨n - 1, by omega⟩
        exact br_f (nI_ge (b := 400) (by omega) (by decide)) (br_t lt1 ⟨in1, nm_r (ar_rd q) (br_f n0 (br_f a2 (br_f a3 (hp _ _ _ _ (ry_no (by decide))))))⟩)
    have a2 : nI (b q) < 64 := nI_lt (b := 64) (by omega) (by decide)
    by_cases cE : z < q + 1 + b q
    · have a3 : ¬ nI q + 1 + nI (b q) ≤ nI z := by rw [ix_q]; exact nI_ge cE (by omega)
      refine ⟨4, 0, 0, 0, c, fun e => absurd e (by decide), ?_, ?_⟩
      · intro xca xli xtt xpf xbs xbi xwe xda xpc xpr xic xrp xne xsn xss xbu xst xse xpl xs xty xcl xtl xds xdl xva xnm xns xna xnp n x post k1 k2 k3 k4 k5 hp
        obtain ⟨n, rfl⟩ : ∃ m, n = m + 1 := ⟨n - 1, by omega⟩
        exact br_f (nI_ge (b := 512) (by omega) (by decide)) (br_t lt1 ⟨in1, nm_r (ar_rd q) (br_f n0 (br_t a1 (br_t a2 (br_f a3 (hp _ _ _ _ (rx_no (by decide)))))))⟩)
      · intro yca yli ytt ypf ybs ybi ypr yic yne yie yde ysn yss ybu yst yse yps ypn yfa yfs ynn fo w n x post k0 k1 k2 k3 k5 hp
        obtain ⟨n, rfl⟩ : ∃ m, n = m + 1 := ⟨n - 1, by omega⟩
        exact br_f (nI_ge (b := 400) (by omega) (by decide)) (br_t lt1 ⟨in1, nm_r (ar_rd q) (br_f n0 (br_t a2 (br_t a1 (br_f a3 (hp _ _ _ _ (ry_no (by decide)))))))⟩)
    have a3 : nI q + 1 + nI (b q) ≤ nI z := by rw [ix_q]; exact nI_le (by omega) (by omega)
    by_cases cF : 63 < t + 1 + b q
    · have a4 : ¬ nI t + 1 + nI (b q) ≤ 63 := by rw [ix_q]; exact nI_ge (a := 63) cF (by omega)
      refine ⟨7, 0, 0, 0, c, fun e => absurd e (by decide), ?_, ?_⟩
      · intro xca xli xtt xpf xbs xbi xwe xda xpc xpr xic xrp xne xsn xss xbu xst xse xpl xs xty xcl xtl xds xdl xva xnm xns xna xnp n x post k1 k2 k3 k4 k5 hp
        obtain ⟨n, rfl⟩ : ∃ m, n = m + 1 := ⟨n - 1, by omega⟩
        exact br_f (nI_ge (b := 512) (by omega) (by decide)) (br_t lt1 ⟨in1, nm_r (ar_rd q) (br_f n0 (br_t a1 (br_t a2 (br_t a3 (br_f a4 (hp _ _ _ _ (rx_no (by decide))))))))⟩)
      · intro yca yli ytt ypf ybs ybi ypr yic yne yie yde ysn yss ybu yst yse yps ypn yfa yfs ynn fo w n x post k0 k1 k2 k3 k5 hp
        obtain ⟨n, rfl⟩ : ∃ m, n = m + 1 := ⟨n - 1, by omega⟩
        exact br_f (nI_ge (b := 400) (by omega) (by decide)) (br_t lt1 ⟨in1, nm_r (ar_rd q) (br_f n0 (br_t a2 (br_t a1 (br_t a3 (br_f a4 (hp _ _ _ _ (ry_no (by decide))))))))⟩)
    have a4 : nI t + 1 + nI (b q) ≤ 63 := by rw [ix_q]; exact nI_le (b := 63) (by omega) (by decide)
    have hct : ar_bw c t (fun i => b (q + i)) (b q + 1) t = b q := by rw [ar_bi (by omega) (by omega), Nat.sub_self]; rfl
    obtain ⟨r, m, pt', en, c', hf, hX, hY⟩ := ih (q + 1 + b q) run (t + 1 + b q) pt e (ar_bw c t (fun i => b (q + i)) (b q + 1)) (by omega) (by omega) h3 (by omega)
      (hc_s h5 (fun j hj => ar_bo (by omega)) hct (by omega) (by omega))
      (fun j hj => by
        by_cases y : j < t
        · rw [ar_bo (by omega)]; exact h6 j y
        · rw [ar_bi (by omega) (by omega)]; exact hb _) h7
    refine ⟨r, m, pt', en, c', hf, ?_, ?_⟩
    · intro xca xli xtt xpf xbs xbi xwe xda xpc xpr xic xrp xne xsn xss xbu xst xse xpl xs xty xcl xtl xds xdl xva xnm xns xna xnp n x post k1 k2 k3 k4 k5 hp
      obtain ⟨n, rfl⟩ : ∃ m, n = m + 1 := ⟨n - 1, by omega⟩
      have KX := hX xca xli xtt xpf xbs xbi xwe xda xpc xpr xic xrp xne xsn xss xbu xst xse xpl xs xty xcl xtl xds xdl xva (ar_bw xnm (64 * nm + t) (fun i => nI (b (q + i))) (b q + 1)) xns xna xnp n (x + 1) post (by omega) (by omega)
        (fun j hj => by
          by_cases y : j < t
          · rw [ar_bo (by omega), ar_bo (by omega)]; exact k3 j y
          · rw [ar_bi (by omega) (by omega), ar_bi (by omega) (by omega), show 64 * nm + j - (64 * nm + t) = j - t by omega]) k4 k5
        (fun _ _ _ _ hr => hp _ _ _ _ (rx_tr (fun j hj => ar_bo (by omega)) (fun _ _ => rfl) (fun _ _ => rfl) hr))
      have K := x_244 (post := post) (x2 := nI nm) (xca := xca) (xli := xli) (xtt := xtt) (xpf := xpf) (xbs := xbs) (xbi := xbi) (xwe := xwe) (xda := xda) (xpc := xpc) (xis := nI z) (xpr := xpr) (xic := xic) (xrp := xrp) hnm (by omega) (by omega) KX (b q + 1) 0 (b q + 2) (by omega) (by omega)
      rw [ar_b0] at K
      exact br_f (nI_ge (b := 512) (by omega) (by decide)) (br_t lt1 ⟨in1, nm_r (ar_rd q) (br_f n0 (br_t a1 (br_t a2 (br_t a3 (br_t a4 ⟨_, K⟩)))))⟩)
    · intro yca yli ytt ypf ybs ybi ypr yic yne yie yde ysn yss ybu yst yse yps ypn yfa yfs ynn fo w n x post k0 k1 k2 k3 k5 hp
      obtain ⟨n, rfl⟩ : ∃ m, n = m + 1 := ⟨n - 1, by omega⟩
      have KY := hY yca yli ytt ypf ybs ybi ypr yic yne yie yde ysn yss ybu yst yse yps ypn yfa yfs ynn (ar_bw fo (64 * w + t) (fun i => b (q + i)) (b q + 1)) w n (x + 1) post k0 (by omega) (by omega)
        (fun j hj => by
          by_cases y : j < t
          · rw [ar_bo (by omega), ar_bo (by omega)]; exact k3 j y
          · rw [ar_bi (by omega) (by omega), ar_bi (by omega) (by omega), show 64 * w + j - (64 * w + t) = j - t by omega]) k5
        (fun _ _ _ _ hr => hp _ _ _ _ (ry_tr (fun j hj => ar_bo (by omega)) hr))
      have K := y_245 (post := post) (x1 := nI s) (yca := yca) (yli := yli) (ytt := ytt) (ypf := ypf) (ybs := ybs) (ybi := ybi) (yis := nI z) (ypr := ypr) (yic := yic) (yne := yne) (yie := yie) (yde := yde) (ynn := ynn) k0 (by omega) (by omega) KY (b q + 1) 0 (b q + 2) (by omega) (by omega)
      rw [ar_b0] at K
      exact br_f (nI_ge (b := 400) (by omega) (by decide)) (br_t lt1 ⟨in1, nm_r (ar_rd q) (br_f n0 (br_t a2 (br_t a1 (br_t a3 (br_t a4 ⟨_, K⟩)))))⟩)
/-! readName as called -/
theorem rn_ex {z nm s : Nat} (hz : z ≤ 255) (hb : ∀ j, b j < 256) (hnm : nm < 32) (hs : s ≤ 255) :
    ∃ (r : Int32) (m : Nat) (pt : Int32) (en : Nat) (c : Nat → Nat), (r = 0 → nf_ m c ∧ en ≤ z) ∧
      (∀ (xca xli xtt xpf xbs xbi xwe xda xpc xpr xic xrp xne : Int32) (xsn xss xbu xst xse xpl xs xty xcl : Nat → Int32) (xtl : Nat → Int64) (xds xdl : Nat → Int32) (xva : Nat → Int64) (xnm xns xna xnp : Nat → Int32) (ps pn : Int32) (post : Int32 → SX → Prop), ps = nI s → pn = nI nm → (∀ (xne' : Int32) (xnm' xns' xnp' : Nat → Int32), rx_ nm xnm xns xnp r m pt en c xne' xnm' xns' xnp' → post r (xca, xli, xtt, xpf, xbs, xbi, xwe, xda, xpc, nI z, xpr, xic, xrp, xne', xsn, xss, xbu, xst, xse, xpl, ar_I b, xs, xty, xcl, xtl, xds, xdl, xva, xnm', xns', upd xna nm (nI s), xnp')) → wpX_readName post (xca, xli, xtt, xpf, xbs, xbi, xwe, xda, xpc, nI z, xpr, xic, xrp, xne, xsn, xss, xbu, xst, xse, xpl, ar_I b, xs, xty, xcl, xtl, xds, xdl, xva, xnm, xns, xna, xnp) ps pn) ∧
      (∀ (yca yli ytt ypf ybs ybi ypr yic yne yie yde : Int32) (ysn yss ybu yst yse yps ypn : Nat → Int32) (yfa : Nat → Int64) (yfs : Nat → Int32) (ynn : Nat) (fo : Nat → Nat) (w : Nat) (ps : Int32) (post : Int32 → SY → Prop), w < 2 → ps = nI s →
        (∀ (yne' : Int32) (yfa' : Nat → Int64) (fo' : Nat → Nat) (yfs' : Nat → Int32), ry_ s w yfa fo yfs r m pt en c yne' yfa' fo' yfs' → post r (yca, yli, ytt, ypf, ybs, ybi, nI z, ypr, yic, yne', yie, yde, ysn, yss, ybu, yst, yse, yps, ypn, ar_I b, yfa', ar_I fo', yfs', ynn)) →
        wpY_readName post (yca, yli, ytt, ypf, ybs, ybi, nI z, ypr, yic, yne, yie, yde, ysn, yss, ybu, yst, yse, yps, ypn, ar_I b, yfa, ar_I fo, yfs, ynn) ps (nI w)) := by
  obtain ⟨r, m, pt, en, c, hf, hX, hY⟩ := rn_lp (s := s) hz hb hnm 319 s s 0 (-1) 0 (fun _ => 0) (by omega) (by omega) hs (by omega) hc_0 (fun j hj => absurd hj (Nat.not_lt_zero j)) (fun h => absurd rfl h)
  refine ⟨r, m, pt, en, c, hf, ?_, ?_⟩
  · intro xca xli xtt xpf xbs xbi xwe xda xpc xpr xic xrp xne xsn xss xbu xst xse xpl xs xty xcl xtl xds xdl xva xnm xns xna xnp ps pn post e1 e2 hp
    subst e1 e2
    have K := hX xca xli xtt xpf xbs xbi xwe xda xpc xpr xic xrp xne xsn xss xbu xst xse xpl xs xty xcl xtl xds xdl xva xnm xns (upd xna nm (nI s)) (upd xnp nm (-1)) 319 0 post (by decide) (by decide) (fun j hj => absurd hj (Nat.not_lt_zero j)) pk_us (fun h => absurd rfl h) (fun _ _ _ _ hr => hp _ _ _ _ (rx_tr (fun _ _ => rfl) (fun _ _ => rfl) (fun j hj => pk_un hj) hr))
    unfold wpX_readName
    exact nm_r (ix_a nm) ⟨vp_in_nI hnm (by decide), nm_r (ar_sI nm) ⟨vp_in_nI hnm (by decide), nm_r (ar_sI nm) ⟨319, K⟩⟩⟩
  · intro yca yli ytt ypf ybs ybi ypr yic yne yie yde ysn yss ybu yst yse yps ypn yfa yfs ynn fo w ps post hw e1 hp
    subst e1
    exact ⟨319, hY yca yli ytt ypf ybs ybi ypr yic yne yie yde ysn yss ybu yst yse yps ypn yfa yfs ynn fo w 319 0 post hw (by decide) (by decide) (fun j hj => absurd hj (Nat.not_lt_zero j)) (fun h => absurd rfl h) hp⟩
end NAME
end
section
/-! checkData: one outcome -/
section DATA
variable {xca xli xtt xpf xbs xbi xwe xda xpc xis xpr xic xrp xne : Int32} {xsn xss xbu xst xse xpl xin xs xty xcl : Nat → Int32} {xtl : Nat → Int64} {xds xdl : Nat → Int32} {xva : Nat → Int64} {xnm xns xna xnp : Nat → Int32}
variable {yca yli ytt ypf ybs ybi yis ypr yic yne yie yde : Int32} {ysn yss ybu yst yse yps ypn yin : Nat → Int32} {yfa : Nat → Int64} {yfo yfs : Nat → Int32} {ynn : Nat}
variable {b fo c : Nat → Nat}
/-- the strings of a text -/
theorem cs_lp {z i ds dl : Nat} (hz : z ≤ 255) (hb : ∀ j, b j < 256) (hi : i < 16) (hd : ds + dl ≤ z) : ∀ M q k, ds + dl - q ≤ M → ds + k ≤ q → q ≤ 600 →
    (∃ K : Nat, (∀ (xca xli xtt xpf xbs xbi xwe xda xpc xis xpr xic xrp xne : Int32) (xsn xss xbu xst xse xpl xs xty xcl : Nat → Int32) (xtl : Nat → Int64) (xds xdl : Nat → Int32) (xva : Nat → Int64) (xnm xns xna xnp : Nat → Int32) (n : Nat) (post : Int32 → SX → Prop), M < n → post 0 (xca, xli, xtt, xpf, xbs, xbi, xwe, xda, xpc, xis, xpr, xic, xrp, xne, xsn, xss, xbu, xst, xse, xpl, ar_I b, xs, xty, xcl, xtl, xds, xdl, vp_updL xva i (nI K).toInt64, xnm, xns, xna, xnp) → wX_countStrings_14 post (nI i) (nI (ds + dl)) xca xli xtt xpf xbs xbi xwe xda xpc xis xpr xic xrp xne xsn xss xbu xst xse xpl (ar_I b) xs xty xcl xtl xds xdl xva xnm xns xna xnp n (nI q) (nI k)) ∧
      (∀ (yca yli ytt ypf ybs ybi yis ypr yic yne yie yde : Int32) (ysn yss ybu yst yse yps ypn : Nat → Int32) (yfa : Nat → Int64) (yfo yfs : Nat → Int32) (ynn : Nat) (n : Nat) (post : Int32 → SY → Prop), M < n → post 0 (yca, yli, ytt, ypf, ybs, ybi, yis, ypr, yic, yne, yie, yde, ysn, yss, ybu, yst, yse, yps, ypn, ar_I b, vp_updL yfa 6 (nI K).toInt64, yfo, yfs, ynn) → wY_checkData_150 post (nI ds) (nI dl) yca yli ytt ypf ybs ybi yis ypr yic yne yie yde ysn yss ybu yst yse yps ypn (ar_I b) yfa yfo yfs ynn n (nI q) (nI k) (nI k)))
    ∨ ((∀ (xca xli xtt xpf xbs xbi xwe xda xpc xis xpr xic xrp xne : Int32) (xsn xss xbu xst xse xpl xs xty xcl : Nat → Int32) (xtl : Nat → Int64) (xds xdl : Nat → Int32) (xva : Nat → Int64) (xnm xns xna xnp : Nat → Int32) (n : Nat) (post : Int32 → SX → Prop), M < n → post 8 (xca, xli, xtt, xpf, xbs, xbi, xwe, xda, xpc, xis, xpr, xic, xrp, xne, xsn, xss, xbu, xst, xse, xpl, ar_I b, xs, xty, xcl, xtl, xds, xdl, xva, xnm, xns, xna, xnp) → wX_countStrings_14 post (nI i) (nI (ds + dl)) xca xli xtt xpf xbs xbi xwe xda xpc xis xpr xic xrp xne xsn xss xbu xst xse xpl (ar_I b) xs xty xcl xtl xds xdl xva xnm xns xna xnp n (nI q) (nI k)) ∧
      (∀ (yca yli ytt ypf ybs ybi yis ypr yic yne yie yde : Int32) (ysn yss ybu yst yse yps ypn : Nat → Int32) (yfa : Nat → Int64) (yfo yfs : Nat → Int32) (ynn : Nat) (n : Nat) (post : Int32 → SY → Prop), M < n → post 8 (yca, yli, ytt, ypf, ybs, ybi, yis, ypr, yic, yne, yie, yde, ysn, yss, ybu, yst, yse, yps, ypn, ar_I b, yfa, yfo, yfs, ynn) → wY_checkData_150 post (nI ds) (nI dl) yca yli ytt ypf ybs ybi yis ypr yic yne yie yde ysn yss ybu yst yse yps ypn (ar_I b) yfa yfo yfs ynn n (nI q) (nI k) (nI k))) := by
  intro M
  induction M with
  | zero =>
    intro q k h1 h2 h3
    by_cases y : q ≤ ds + dl
    · refine Or.inl ⟨k, fun xca xli xtt xpf xbs xbi xwe xda xpc xis xpr xic xrp xne xsn xss xbu xst xse xpl xs xty xcl xtl xds xdl xva xnm xns xna xnp n post hn hp => ?_, ?_⟩
      · obtain ⟨n, rfl⟩ : ∃ m, n = m + 1 := ⟨n - 1, by omega⟩
        exact br_t (nI_le (by omega) (by omega)) (br_t (nI_le y (by omega)) ⟨vp_in_nI hi (by decide), nm_r (ar_sL i) hp⟩)
      · intro yca yli ytt ypf ybs ybi yis ypr yic yne yie yde ysn yss ybu yst yse yps ypn yfa yfo yfs ynn n post hn hp
        obtain ⟨n, rfl⟩ : ∃ m, n = m + 1 := ⟨n - 1, by omega⟩
        have K : wY_checkData_187 post (nI ds) (nI dl) (nI q) (nI k) yca yli ytt ypf ybs ybi yis ypr yic yne yie yde ysn yss ybu yst yse yps ypn (ar_I b) yfa yfo yfs ynn := br_t (by rw [nI_add]; exact nI_le y (by omega)) (nm_e hp)
        exact br_c (fun _ => K) (fun _ => br_t (by rw [nI_add]; exact nI_le (by omega) (by omega)) K)
    · refine Or.inr ⟨fun xca xli xtt xpf xbs xbi xwe xda xpc xis xpr xic xrp xne xsn xss xbu xst xse xpl xs xty xcl xtl xds xdl xva xnm xns xna xnp n post hn hp => ?_, ?_⟩
      · obtain ⟨n, rfl⟩ : ∃ m, n = m + 1 := ⟨n - 1, by omega⟩
        exact br_t (nI_le (by omega) (by omega)) (br_f (nI_ge (by omega) (by omega)) hp)
      · intro yca yli ytt ypf ybs ybi yis ypr yic yne yie yde ysn yss ybu yst yse yps ypn yfa yfo yfs ynn n post hn hp
        obtain ⟨n, rfl⟩ : ∃ m, n = m + 1 := ⟨n - 1, by omega⟩
        have K : wY_checkData_187 post (nI ds) (nI dl) (nI q) (nI k) yca yli ytt ypf ybs ybi yis ypr yic yne yie yde ysn yss ybu yst yse yps ypn (ar_I b) yfa yfo yfs ynn := br_f (by rw [nI_add]; exact nI_ge (by omega) (by omega)) hp
        exact br_c (fun _ => K) (fun _ => br_t (by rw [nI_add]; exact nI_le (by omega) (by omega)) K)
  | succ M ih =>
    intro q k h1 h2 h3
    by_cases y : ds + dl ≤ q
    · rcases ih q k (by omega) h2 h3 with ⟨K, hX, hY⟩ | ⟨hX, hY⟩
      · exact Or.inl ⟨K, fun xca xli xtt xpf xbs xbi xwe xda xpc xis xpr xic xrp xne xsn xss xbu xst xse xpl xs xty xcl xtl xds xdl xva xnm xns xna xnp n post hn hp => hX xca xli xtt xpf xbs xbi xwe xda xpc xis xpr xic xrp xne xsn xss xbu xst xse xpl xs xty xcl xtl xds xdl xva xnm xns xna xnp n post (by omega) hp, fun yca yli ytt ypf ybs ybi yis ypr yic yne yie yde ysn yss ybu yst yse yps ypn yfa yfo yfs ynn n post hn hp => hY yca yli ytt ypf ybs ybi yis ypr yic yne yie yde ysn yss ybu yst yse yps ypn yfa yfo yfs ynn n post (by omega) hp⟩
      · exact Or.inr ⟨fun xca xli xtt xpf xbs xbi xwe xda xpc xis xpr xic xrp xne xsn xss xbu xst xse xpl xs xty xcl xtl xds xdl xva xnm xns xna xnp n post hn hp => hX xca xli xtt xpf xbs xbi xwe xda xpc xis xpr xic xrp xne xsn xss xbu xst xse xpl xs xty xcl xtl xds xdl xva xnm xns xna xnp n post (by omega) hp, fun yca yli ytt ypf ybs ybi yis ypr yic yne yie yde ysn yss ybu yst yse yps ypn yfa yfo yfs ynn n post hn hp => hY yca yli ytt ypf ybs ybi yis ypr yic yne yie yde ysn yss ybu yst yse yps ypn yfa yfo yfs ynn n post (by omega) hp⟩
    · have hbq := hb q
      have e1 : nI q + (1 + ar_I b (nI q).toNatClampNeg) = nI (q + 1 + b q) := by rw [ar_rd q, ix_p]
      have in1 : vp_in (nI q) 255 := vp_in_nI (by omega) (by decide)
      have nx : ¬ nI (ds + dl) ≤ nI q := nI_ge (by omega) (by omega)
      have ny : ¬ nI ds + nI dl ≤ nI q := by rw [nI_add]; exact nx
      have nk : ¬ nI dl ≤ nI k := nI_ge (by omega) (by omega)
      rcases ih (q + 1 + b q) (k + 1) (by omega) (by omega) (by omega) with ⟨K, hX, hY⟩ | ⟨hX, hY⟩
      · refine Or.inl ⟨K, fun xca xli xtt xpf xbs xbi xwe xda xpc xis xpr xic xrp xne xsn xss xbu xst xse xpl xs xty xcl xtl xds xdl xva xnm xns xna xnp n post hn hp => ?_, ?_⟩
        · obtain ⟨n, rfl⟩ : ∃ m, n = m + 1 := ⟨n - 1, by omega⟩
          exact br_f nx ⟨in1, nm_r e1 (nm_r (nI_1 k) (hX xca xli xtt xpf xbs xbi xwe xda xpc xis xpr xic xrp xne xsn xss xbu xst xse xpl xs xty xcl xtl xds xdl xva xnm xns xna xnp n post (by omega) hp))⟩
        · intro yca yli ytt ypf ybs ybi yis ypr yic yne yie yde ysn yss ybu yst yse yps ypn yfa yfo yfs ynn n post hn hp
          obtain ⟨n, rfl⟩ : ∃ m, n = m + 1 := ⟨n - 1, by omega⟩
          exact br_f nk (br_f ny ⟨in1, nm_r e1 (nm_r (nI_1 k) (nm_r (nI_1 k) (hY yca yli ytt ypf ybs ybi yis ypr yic yne yie yde ysn yss ybu yst yse yps ypn yfa yfo yfs ynn n post (by omega) hp)))⟩)
      · refine Or.inr ⟨fun xca xli xtt xpf xbs xbi xwe xda xpc xis xpr xic xrp xne xsn xss xbu xst xse xpl xs xty xcl xtl xds xdl xva xnm xns xna xnp n post hn hp => ?_, ?_⟩
        · obtain ⟨n, rfl⟩ : ∃ m, n = m + 1 := ⟨n - 1, by omega⟩
          exact br_f nx ⟨in1, nm_r e1 (nm_r (nI_1 k) (hX xca xli xtt xpf xbs xbi xwe xda xpc xis xpr xic xrp xne xsn xss xbu xst xse xpl xs xty xcl xtl xds xdl xva xnm xns xna xnp n post (by omega) hp))⟩
        · intro yca yli ytt ypf ybs ybi yis ypr yic yne yie yde ysn yss ybu yst yse yps ypn yfa yfo yfs ynn n post hn hp
          obtain ⟨n, rfl⟩ : ∃ m, n = m + 1 := ⟨n - 1, by omega⟩
          exact br_f nk (br_f ny ⟨in1, nm_r e1 (nm_r (nI_1 k) (nm_r (nI_1 k) (hY yca yli ytt ypf ybs ybi yis ypr yic yne yie yde ysn yss ybu yst yse yps ypn yfa yfo yfs ynn n post (by omega) hp)))⟩)
/-- what X's checkData leaves -/
def cx_ (i : Nat) (xva : Nat → Int64) (xnm xns xna xnp : Nat → Int32) (r : Int32) (V : Int64) (m : Nat) (s1 pt : Int32) (c : Nat → Nat) (xva' : Nat → Int64) (xnm' xns' xna' xnp' : Nat → Int32) : Prop :=
  (∀ j, j ≠ i → xva' j = xva j) ∧ (∀ j, (j < 64 * (2 * i + 1) ∨ 64 * (2 * i + 1) + 64 ≤ j) → xnm' j = xnm j) ∧ (∀ j, j ≠ 2 * i + 1 → xns' j = xns j ∧ xna' j = xna j ∧ xnp' j = xnp j) ∧
  (r = 0 → xva' i = V ∧ xna' (2 * i + 1) = s1 ∧ xnp' (2 * i + 1) = pt ∧ (m ≠ 0 → xns' (2 * i + 1) = nI m ∧ ∀ j, j < m → xnm' (64 * (2 * i + 1) + j) = nI (c j)))
/-- what Y's checkData leaves -/
def cy_ (yfa : Nat → Int64) (fo : Nat → Nat) (yfs : Nat → Int32) (r : Int32) (V : Int64) (m : Nat) (s1 pt : Int32) (c : Nat → Nat) (yfa' : Nat → Int64) (fo' : Nat → Nat) (yfs' : Nat → Int32) : Prop :=
  (∀ j, j ≠ 6 → j ≠ 9 → j ≠ 10 → yfa' j = yfa j) ∧ (∀ j, j < 64 → fo' j = fo j) ∧ yfs' 0 = yfs 0 ∧
  (r = 0 → yfa' 6 = V ∧ yfa' 9 = s1.toInt64 ∧ yfa' 10 = pt.toInt64 ∧ yfs' 1 = nI m ∧ ∀ j, j < m → fo' (64 + j) = c j)
theorem cx_no {i : Nat} {r : Int32} {V : Int64} {m : Nat} {s1 pt : Int32} (hr : ¬ r = 0) : cx_ i xva xnm xns xna xnp r V m s1 pt c xva xnm xns xna xnp :=
  ⟨fun _ _ => rfl, fun _ _ => rfl, fun _ _ => ⟨rfl, rfl, rfl⟩, fun e => absurd e hr⟩
theorem cy_no {r : Int32} {V : Int64} {m : Nat} {s1 pt : Int32} (hr : ¬ r = 0) : cy_ yfa fo yfs r V m s1 pt c yfa fo yfs :=
  ⟨fun _ _ _ _ => rfl, fun _ _ => rfl, rfl, fun e => absurd e hr⟩
theorem cx_v {i : Nat} {V : Int64} (n0 : xna (2 * i + 1) = -1) (p0 : xnp (2 * i + 1) = -1) : cx_ i xva xnm xns xna xnp 0 V 0 (-1) (-1) c (vp_updL xva i V) xnm xns xna xnp :=
  ⟨fun _ hj => pk_uLn hj, fun _ _ => rfl, fun _ _ => ⟨rfl, rfl, rfl⟩, fun _ => ⟨pk_uLs, n0, p0, fun h => absurd rfl h⟩⟩
theorem m1_l : (-1 : Int32).toInt64 = -1 := by decide
theorem cy_v {V : Int64} (n9 : yfa 9 = -1) (n10 : yfa 10 = -1) (n1 : yfs 1 = 0) : cy_ yfa fo yfs 0 V 0 (-1) (-1) c (vp_updL yfa 6 V) fo yfs :=
  ⟨fun _ hj _ _ => pk_uLn hj, fun _ _ => rfl, rfl, fun _ => ⟨pk_uLs, by rw [pk_uLn (by decide), n9, m1_l], by rw [pk_uLn (by decide), n10, m1_l], n1, fun j hj => absurd hj (Nat.not_lt_zero j)⟩⟩
end DATA
end
section
/-! checkData: the cases -/
section CHECK
variable {xca xli xtt xpf xbs xbi xwe xda xpc xis xpr xic xrp xne : Int32} {xsn xss xbu xst xse xpl xin xs xty xcl : Nat → Int32} {xtl : Nat → Int64} {xds xdl : Nat → Int32} {xva : Nat → Int64} {xnm xns xna xnp : Nat → Int32}
variable {yca yli ytt ypf ybs ybi yis ypr yic yne yie yde : Int32} {ysn yss ybu yst yse yps ypn yin : Nat → Int32} {yfa : Nat → Int64} {yfo yfs : Nat → Int32} {ynn : Nat}
variable {b fo c : Nat → Nat}
theorem ne_l {a k : Nat} (h : a ≠ k) (ha : a < 2 ^ 31) (hk : k < 2 ^ 31) : ¬ nI a = nI k := fun e => h ((nI_eq ha hk).mp e)
theorem cx_n {i s0 m en : Nat} {r0 r pt xne' : Int32} {V : Int64} {xva' : Nat → Int64} {xnm' xns' xnp' : Nat → Int32} (h : rx_ (2 * i + 1) xnm xns xnp r0 m pt en c xne' xnm' xns' xnp') (hv : ∀ j, j ≠ i → xva' j = xva j) (hr : r = 0 → r0 = 0 ∧ xva' i = V) : cx_ i xva xnm xns xna xnp r V m (nI s0) pt c xva' xnm' xns' (upd xna (2 * i + 1) (nI s0)) xnp' := by
  refine ⟨hv, h.1, fun j hj => ⟨h.2.1 j hj, pk_un hj, h.2.2.1 j hj⟩, fun e => ?_⟩
  obtain ⟨a, d⟩ := hr e
  obtain ⟨k1, k2, k3, k4⟩ := h.2.2.2 a
  exact ⟨d, pk_us, k4, fun _ => ⟨k3, k2⟩⟩
theorem cy_n {s0 m en : Nat} {r0 r pt yne' : Int32} {V : Int64} {yfa' yfb : Nat → Int64} {fo' : Nat → Nat} {yfs' : Nat → Int32} (h : ry_ s0 1 yfa fo yfs r0 m pt en c yne' yfa' fo' yfs') (hv : ∀ j, j ≠ 6 → yfb j = yfa' j) (hr : r = 0 → r0 = 0 ∧ yfb 6 = V) : cy_ yfa fo yfs r V m (nI s0) pt c yfb fo' yfs' := by
  refine ⟨fun j h6 h9 h10 => (hv j h6).trans (h.2.2.1 j h9 h10), fun j hj => h.1 j (by omega), h.2.1 0 (by decide), fun e => ?_⟩
  obtain ⟨a, d⟩ := hr e
  obtain ⟨k1, k2, k3, k4, k5⟩ := h.2.2.2 a
  exact ⟨d, (hv 9 (by decide)).trans k4, (hv 10 (by decide)).trans k5, k3, k2⟩
theorem x_pl {post : Int32 → Prop} {p : Int32} (h : p = 2 ∨ p = 5 ∨ p = 12) (hp : post 1) : wpX_isPlainLink post (xca, xli, xtt, xpf, xbs, xbi, xwe, xda, xpc, xis, xpr, xic, xrp, xne, xsn, xss, xbu, xst, xse, xpl, xin, xs, xty, xcl, xtl, xds, xdl, xva, xnm, xns, xna, xnp) p := by
  rcases h with e | e | e
  · exact br_t e hp
  · subst e; exact br_f (by decide) (br_t rfl hp)
  · subst e; exact br_f (by decide) (br_f (by decide) (br_t rfl hp))
theorem x_npl {post : Int32 → Prop} {p : Int32} (h : ¬ (p = 2 ∨ p = 5 ∨ p = 12)) (hp : post 0) : wpX_isPlainLink post (xca, xli, xtt, xpf, xbs, xbi, xwe, xda, xpc, xis, xpr, xic, xrp, xne, xsn, xss, xbu, xst, xse, xpl, xin, xs, xty, xcl, xtl, xds, xdl, xva, xnm, xns, xna, xnp) p :=
  br_f (fun e => h (Or.inl e)) (br_f (fun e => h (Or.inr (Or.inl e))) (br_f (fun e => h (Or.inr (Or.inr e))) hp))
theorem y_c51 {post : Int32 → SY → Prop} {p p1 p2 : Int32} (ht : lt_ p) (h : wY_checkData_51 post p p1 p2 yca yli ytt ypf ybs ybi yis ypr yic yne yie yde ysn yss ybu yst yse yps ypn yin yfa yfo yfs ynn) : wpY_checkData post (yca, yli, ytt, ypf, ybs, ybi, yis, ypr, yic, yne, yie, yde, ysn, yss, ybu, yst, yse, yps, ypn, yin, yfa, yfo, yfs, ynn) p p1 p2 := by
  rcases ht with e | e | e | e
  · subst e; exact br_f (by decide) (br_t rfl h)
  · subst e; exact br_f (by decide) (br_f (by decide) (br_t rfl h))
  · subst e; exact br_f (by decide) (br_f (by decide) (br_f (by decide) (br_t rfl h)))
  · subst e; exact br_f (by decide) (br_f (by decide) (br_f (by decide) (br_f (by decide) (br_t rfl h))))
theorem cd_ex {z i ty ds dl : Nat} (hz : z ≤ 255) (hb : ∀ j, b j < 256) (hi : i < 16) (hty : ty < 65536) (hd : ds + dl ≤ z) :
    ∃ (r : Int32) (V : Int64) (m : Nat) (s1 pt : Int32) (c : Nat → Nat), (r = 0 → (m = 0 ∧ s1 = -1) ∨ (nf_ m c ∧ ¬ s1 = -1)) ∧
      (∀ (xca xli xtt xpf xbs xbi xwe xda xpc xpr xic xrp xne : Int32) (xsn xss xbu xst xse xpl xs xty xcl : Nat → Int32) (xtl : Nat → Int64) (xds xdl : Nat → Int32) (xva : Nat → Int64) (xnm xns xna xnp : Nat → Int32) (post : Int32 → SX → Prop), xty i = nI ty → xds i = nI ds → xdl i = nI dl → xva i = -1 → xna (2 * i + 1) = -1 → xnp (2 * i + 1) = -1 → (∀ (xne' : Int32) (xva' : Nat → Int64) (xnm' xns' xna' xnp' : Nat → Int32), cx_ i xva xnm xns xna xnp r V m s1 pt c xva' xnm' xns' xna' xnp' → post r (xca, xli, xtt, xpf, xbs, xbi, xwe, xda, xpc, nI z, xpr, xic, xrp, xne', xsn, xss, xbu, xst, xse, xpl, ar_I b, xs, xty, xcl, xtl, xds, xdl, xva', xnm', xns', xna', xnp')) → wpX_checkData post (xca, xli, xtt, xpf, xbs, xbi, xwe, xda, xpc, nI z, xpr, xic, xrp, xne, xsn, xss, xbu, xst, xse, xpl, ar_I b, xs, xty, xcl, xtl, xds, xdl, xva, xnm, xns, xna, xnp) (nI i)) ∧
      (∀ (yca yli ytt ypf ybs ybi ypr yic yne yie yde : Int32) (ysn yss ybu yst yse yps ypn : Nat → Int32) (yfa : Nat → Int64) (yfs : Nat → Int32) (ynn : Nat) (fo : Nat → Nat) (post : Int32 → SY → Prop), yfa 6 = -1 → yfa 9 = -1 → yfa 10 = -1 → yfs 1 = 0 → (∀ (yne' : Int32) (yfa' : Nat → Int64) (fo' : Nat → Nat) (yfs' : Nat → Int32), cy_ yfa fo yfs r V m s1 pt c yfa' fo' yfs' → post r (yca, yli, ytt, ypf, ybs, ybi, nI z, ypr, yic, yne', yie, yde, ysn, yss, ybu, yst, yse, yps, ypn, ar_I b, yfa', ar_I fo', yfs', ynn)) → wpY_checkData post (yca, yli, ytt, ypf, ybs, ybi, nI z, ypr, yic, yne, yie, yde, ysn, yss, ybu, yst, yse, yps, ypn, ar_I b, yfa, ar_I fo, yfs, ynn) (nI ty) (nI ds) (nI dl)) := by
  have iv : vp_in (nI i) 16 := vp_in_nI hi (by decide)
  have ER : ∀ (f : Nat → Int32) (v : Int32), f i = v → f (nI i).toNatClampNeg = v := fun f v h => by rw [nI_clamp (by omega), h]
  by_cases c1 : ty = 1
  · have t1 : nI ty = 1 := by rw [c1]; rfl
    by_cases c4 : dl = 4
    · have t4 : nI dl = 4 := by rw [c4]; rfl
      refine ⟨0, lN (t4_ b ds), 0, -1, -1, fun _ => 0, fun _ => Or.inl ⟨rfl, rfl⟩, fun xca xli xtt xpf xbs xbi xwe xda xpc xpr xic xrp xne xsn xss xbu xst xse xpl xs xty xcl xtl xds xdl xva xnm xns xna xnp post h1 h2 h3 v0 n0 p0 hp => ?_, ?_⟩
      · refine And.intro iv (nm_r (ER _ _ h1) (And.intro iv (nm_r (ER _ _ h2) (And.intro iv (nm_r (ER _ _ h3) (br_t t1 (br_t t4 ?_)))))))
        exact x_four rfl (by omega) hb ⟨iv, nm_r (ar_sL i) (hp _ _ _ _ _ _ (cx_v n0 p0))⟩
      · intro yca yli ytt ypf ybs ybi ypr yic yne yie yde ysn yss ybu yst yse yps ypn yfa yfs ynn fo post g6 g9 g10 g1 hp
        exact br_t t1 (br_t t4 (y_four rfl (by omega) hb (nm_e (hp _ _ _ _ (cy_v g9 g10 g1)))))
    · have t4 : ¬ nI dl = 4 := ne_l c4 (by omega) (by decide)
      refine ⟨8, 0, 0, -1, -1, fun _ => 0, fun e => absurd e (by decide), fun xca xli xtt xpf xbs xbi xwe xda xpc xpr xic xrp xne xsn xss xbu xst xse xpl xs xty xcl xtl xds xdl xva xnm xns xna xnp post h1 h2 h3 v0 n0 p0 hp => ?_, ?_⟩
      · exact And.intro iv (nm_r (ER _ _ h1) (And.intro iv (nm_r (ER _ _ h2) (And.intro iv (nm_r (ER _ _ h3) (br_t t1 (br_f t4 (hp _ _ _ _ _ _ (cx_no (by decide))))))))))
      · intro yca yli ytt ypf ybs ybi ypr yic yne yie yde ysn yss ybu yst yse yps ypn yfa yfs ynn fo post g6 g9 g10 g1 hp
        exact br_t t1 (br_f t4 (hp _ _ _ _ (cy_no (by decide))))
  have t1 : ¬ nI ty = 1 := ne_l c1 (by omega) (by decide)
  by_cases c15 : ty = 15
  · have t15 : nI ty = 15 := by rw [c15]; rfl
    have hlt : lt_ (nI ty) := Or.inr (Or.inr (Or.inr t15))
    by_cases c3 : dl < 3
    · have t3 : ¬ 3 ≤ nI dl := nI_ge (b := 3) c3 (by decide)
      refine ⟨8, 0, 0, -1, -1, fun _ => 0, fun e => absurd e (by decide), fun xca xli xtt xpf xbs xbi xwe xda xpc xpr xic xrp xne xsn xss xbu xst xse xpl xs xty xcl xtl xds xdl xva xnm xns xna xnp post h1 h2 h3 v0 n0 p0 hp => ?_, ?_⟩
      · exact And.intro iv (nm_r (ER _ _ h1) (And.intro iv (nm_r (ER _ _ h2) (And.intro iv (nm_r (ER _ _ h3) (br_f t1 (br_t t15 (br_f t3 (hp _ _ _ _ _ _ (cx_no (by decide)))))))))))
      · intro yca yli ytt ypf ybs ybi ypr yic yne yie yde ysn yss ybu yst yse yps ypn yfa yfs ynn fo post g6 g9 g10 g1 hp
        exact y_c51 hlt (br_t t15 (br_f t3 (hp _ _ _ _ (cy_no (by decide)))))
    have t3 : 3 ≤ nI dl := nI_le (a := 3) (by omega) (by omega)
    have h16 : t2_ b ds < 65536 := t2_lt hb
    obtain ⟨r0, m, pt, en, c, hf, hX, hY⟩ := rn_ex (b := b) (nm := 2 * i + 1) (s := ds + 2) hz hb (by omega) (by omega)
    have eN : 2 * nI i + 1 = nI (2 * i + 1) := by rw [ix_2, nI_1]
    by_cases cr : r0 = 0
    · subst cr
      obtain ⟨hf1, hf2⟩ := hf rfl
      by_cases ce : en = ds + dl
      · refine ⟨0, lN (t2_ b ds), m, nI (ds + 2), pt, c, fun _ => Or.inr ⟨hf1, nI_n1 (by omega)⟩, fun xca xli xtt xpf xbs xbi xwe xda xpc xpr xic xrp xne xsn xss xbu xst xse xpl xs xty xcl xtl xds xdl xva xnm xns xna xnp post h1 h2 h3 v0 n0 p0 hp => ?_, ?_⟩
        · refine And.intro iv (nm_r (ER _ _ h1) (And.intro iv (nm_r (ER _ _ h2) (And.intro iv (nm_r (ER _ _ h3) (br_f t1 (br_t t15 (br_t t3 ?_))))))))
          refine x_two rfl (by omega) hb ⟨iv, nm_r (e' := vp_updL xva i (lN (t2_ b ds))) (by rw [ar_sL i, nI_l (by omega)]) ?_⟩
          unfold wpX_readDataName
          refine hX xca xli xtt xpf xbs xbi xwe xda xpc xpr xic xrp xne xsn xss xbu xst xse xpl xs xty xcl xtl xds xdl (vp_updL xva i (lN (t2_ b ds))) xnm xns xna xnp _ _ _ (na_2 ds) eN (fun xne' xnm' xns' xnp' hr => ?_)
          exact br_t rfl (br_t (by rw [(hr.2.2.2 rfl).1, ce, nI_add]) (hp _ _ _ _ _ _ (cx_n hr (fun j hj => pk_uLn hj) (fun _ => ⟨rfl, pk_uLs⟩))))
        · intro yca yli ytt ypf ybs ybi ypr yic yne yie yde ysn yss ybu yst yse yps ypn yfa yfs ynn fo post g6 g9 g10 g1 hp
          refine y_c51 hlt (br_t t15 (br_t t3 (br_t t15 ?_)))
          unfold wY_checkData_79
          refine hY yca yli ytt ypf ybs ybi ypr yic yne yie yde ysn yss ybu yst yse yps ypn yfa yfs ynn fo 1 _ _ (by decide) (na_2 ds) (fun yne' yfa' fo' yfs' hr => ?_)
          refine br_t rfl (br_t (by rw [(hr.2.2.2 rfl).1, ce, nI_add]) (br_t t15 ?_))
          exact y_two rfl (by omega) hb (nm_e (hp _ _ _ _ (cy_n hr (fun j hj => pk_uLn hj) (fun _ => ⟨rfl, pk_uLs⟩))))
      · have te : ¬ nI en = nI ds + nI dl := by rw [nI_add]; exact ne_l ce (by omega) (by omega)
        refine ⟨8, 0, m, nI (ds + 2), pt, c, fun e => absurd e (by decide), fun xca xli xtt xpf xbs xbi xwe xda xpc xpr xic xrp xne xsn xss xbu xst xse xpl xs xty xcl xtl xds xdl xva xnm xns xna xnp post h1 h2 h3 v0 n0 p0 hp => ?_, ?_⟩
        · refine And.intro iv (nm_r (ER _ _ h1) (And.intro iv (nm_r (ER _ _ h2) (And.intro iv (nm_r (ER _ _ h3) (br_f t1 (br_t t15 (br_t t3 ?_))))))))
          refine x_two rfl (by omega) hb ⟨iv, nm_r (e' := vp_updL xva i (lN (t2_ b ds))) (by rw [ar_sL i, nI_l (by omega)]) ?_⟩
          unfold wpX_readDataName
          refine hX xca xli xtt xpf xbs xbi xwe xda xpc xpr xic xrp xne xsn xss xbu xst xse xpl xs xty xcl xtl xds xdl (vp_updL xva i (lN (t2_ b ds))) xnm xns xna xnp _ _ _ (na_2 ds) eN (fun xne' xnm' xns' xnp' hr => ?_)
          exact br_t rfl (br_f (by rw [(hr.2.2.2 rfl).1]; exact te) (hp _ _ _ _ _ _ (cx_n hr (fun j hj => pk_uLn hj) (fun e => absurd e (by decide)))))
        · intro yca yli ytt ypf ybs ybi ypr yic yne yie yde ysn yss ybu yst yse yps ypn yfa yfs ynn fo post g6 g9 g10 g1 hp
          refine y_c51 hlt (br_t t15 (br_t t3 (br_t t15 ?_)))
          unfold wY_checkData_79
          refine hY yca yli ytt ypf ybs ybi ypr yic yne yie yde ysn yss ybu yst yse yps ypn yfa yfs ynn fo 1 _ _ (by decide) (na_2 ds) (fun yne' yfa' fo' yfs' hr => ?_)
          exact br_t rfl (br_f (by rw [(hr.2.2.2 rfl).1]; exact te) (hp _ _ _ _ (cy_n hr (fun j hj => rfl) (fun e => absurd e (by decide)))))
    · refine ⟨r0, 0, m, nI (ds + 2), pt, c, fun e => absurd e cr, fun xca xli xtt xpf xbs xbi xwe xda xpc xpr xic xrp xne xsn xss xbu xst xse xpl xs xty xcl xtl xds xdl xva xnm xns xna xnp post h1 h2 h3 v0 n0 p0 hp => ?_, ?_⟩
      · refine And.intro iv (nm_r (ER _ _ h1) (And.intro iv (nm_r (ER _ _ h2) (And.intro iv (nm_r (ER _ _ h3) (br_f t1 (br_t t15 (br_t t3 ?_))))))))
        refine x_two rfl (by omega) hb ⟨iv, nm_r (e' := vp_updL xva i (lN (t2_ b ds))) (by rw [ar_sL i, nI_l (by omega)]) ?_⟩
        unfold wpX_readDataName
        refine hX xca xli xtt xpf xbs xbi xwe xda xpc xpr xic xrp xne xsn xss xbu xst xse xpl xs xty xcl xtl xds xdl (vp_updL xva i (lN (t2_ b ds))) xnm xns xna xnp _ _ _ (na_2 ds) eN (fun xne' xnm' xns' xnp' hr => ?_)
        exact br_f cr (hp _ _ _ _ _ _ (cx_n hr (fun j hj => pk_uLn hj) (fun e => absurd e cr)))
      · intro yca yli ytt ypf ybs ybi ypr yic yne yie yde ysn yss ybu yst yse yps ypn yfa yfs ynn fo post g6 g9 g10 g1 hp
        refine y_c51 hlt (br_t t15 (br_t t3 (br_t t15 ?_)))
        unfold wY_checkData_79
        refine hY yca yli ytt ypf ybs ybi ypr yic yne yie yde ysn yss ybu yst yse yps ypn yfa yfs ynn fo 1 _ _ (by decide) (na_2 ds) (fun yne' yfa' fo' yfs' hr => ?_)
        exact br_f cr (hp _ _ _ _ (cy_n hr (fun j hj => rfl) (fun e => absurd e cr)))
  have t15 : ¬ nI ty = 15 := ne_l c15 (by omega) (by decide)
  by_cases c16 : ty = 16
  · have t16 : nI ty = 16 := by rw [c16]; rfl
    have q2 : ¬ nI ty = 2 := by rw [t16]; decide
    have q5 : ¬ nI ty = 5 := by rw [t16]; decide
    have q12 : ¬ nI ty = 12 := by rw [t16]; decide
    by_cases cl : dl = 0
    · refine ⟨8, 0, 0, -1, -1, fun _ => 0, fun e => absurd e (by decide), fun xca xli xtt xpf xbs xbi xwe xda xpc xpr xic xrp xne xsn xss xbu xst xse xpl xs xty xcl xtl xds xdl xva xnm xns xna xnp post h1 h2 h3 v0 n0 p0 hp => ?_, ?_⟩
      · exact And.intro iv (nm_r (ER _ _ h1) (And.intro iv (nm_r (ER _ _ h2) (And.intro iv (nm_r (ER _ _ h3) (br_f t1 (br_f t15 (br_t t16 (br_t (by rw [nI_add, cl, Nat.add_zero]) (hp _ _ _ _ _ _ (cx_no (by decide))))))))))))
      · intro yca yli ytt ypf ybs ybi ypr yic yne yie yde ysn yss ybu yst yse yps ypn yfa yfs ynn fo post g6 g9 g10 g1 hp
        exact br_f t1 (br_f q2 (br_f q5 (br_f q12 (br_f t15 (br_t t16 (br_t (by rw [cl]; rfl) (hp _ _ _ _ (cy_no (by decide)))))))))
    have tl : ¬ nI dl = 0 := fun e => cl ((nI_i0 (by omega)).mp e)
    have te : ¬ nI ds = nI ds + nI dl := by rw [nI_add]; exact ne_l (by omega) (by omega) (by omega)
    rcases cs_lp (b := b) hz hb hi hd dl ds 0 (by omega) (by omega) (by omega) with ⟨K, hX, hY⟩ | ⟨hX, hY⟩
    · refine ⟨0, (nI K).toInt64, 0, -1, -1, fun _ => 0, fun _ => Or.inl ⟨rfl, rfl⟩, fun xca xli xtt xpf xbs xbi xwe xda xpc xpr xic xrp xne xsn xss xbu xst xse xpl xs xty xcl xtl xds xdl xva xnm xns xna xnp post h1 h2 h3 v0 n0 p0 hp => ?_, ?_⟩
      · refine And.intro iv (nm_r (ER _ _ h1) (And.intro iv (nm_r (ER _ _ h2) (And.intro iv (nm_r (ER _ _ h3) (br_f t1 (br_f t15 (br_t t16 (br_f te ?_)))))))))
        rw [nI_add]
        exact ⟨dl + 1, hX xca xli xtt xpf xbs xbi xwe xda xpc (nI z) xpr xic xrp xne xsn xss xbu xst xse xpl xs xty xcl xtl xds xdl xva xnm xns xna xnp (dl + 1) _ (by omega) (hp _ _ _ _ _ _ (cx_v n0 p0))⟩
      · intro yca yli ytt ypf ybs ybi ypr yic yne yie yde ysn yss ybu yst yse yps ypn yfa yfs ynn fo post g6 g9 g10 g1 hp
        exact br_f t1 (br_f q2 (br_f q5 (br_f q12 (br_f t15 (br_t t16 (br_f tl ⟨dl + 1, hY yca yli ytt ypf ybs ybi (nI z) ypr yic yne yie yde ysn yss ybu yst yse yps ypn yfa (ar_I fo) yfs ynn (dl + 1) post (by omega) (hp _ _ _ _ (cy_v g9 g10 g1))⟩))))))
    · refine ⟨8, 0, 0, -1, -1, fun _ => 0, fun e => absurd e (by decide), fun xca xli xtt xpf xbs xbi xwe xda xpc xpr xic xrp xne xsn xss xbu xst xse xpl xs xty xcl xtl xds xdl xva xnm xns xna xnp post h1 h2 h3 v0 n0 p0 hp => ?_, ?_⟩
      · refine And.intro iv (nm_r (ER _ _ h1) (And.intro iv (nm_r (ER _ _ h2) (And.intro iv (nm_r (ER _ _ h3) (br_f t1 (br_f t15 (br_t t16 (br_f te ?_)))))))))
        rw [nI_add]
        exact ⟨dl + 1, hX xca xli xtt xpf xbs xbi xwe xda xpc (nI z) xpr xic xrp xne xsn xss xbu xst xse xpl xs xty xcl xtl xds xdl xva xnm xns xna xnp (dl + 1) _ (by omega) (hp _ _ _ _ _ _ (cx_no (by decide)))⟩
      · intro yca yli ytt ypf ybs ybi ypr yic yne yie yde ysn yss ybu yst yse yps ypn yfa yfs ynn fo post g6 g9 g10 g1 hp
        exact br_f t1 (br_f q2 (br_f q5 (br_f q12 (br_f t15 (br_t t16 (br_f tl ⟨dl + 1, hY yca yli ytt ypf ybs ybi (nI z) ypr yic yne yie yde ysn yss ybu yst yse yps ypn yfa (ar_I fo) yfs ynn (dl + 1) post (by omega) (hp _ _ _ _ (cy_no (by decide)))⟩))))))
  have t16 : ¬ nI ty = 16 := ne_l c16 (by omega) (by decide)
  by_cases cp : nI ty = 2 ∨ nI ty = 5 ∨ nI ty = 12
  · have hlt : lt_ (nI ty) := by
      rcases cp with e | e | e
      · exact Or.inl e
      · exact Or.inr (Or.inl e)
      · exact Or.inr (Or.inr (Or.inl e))
    obtain ⟨r0, m, pt, en, c, hf, hX, hY⟩ := rn_ex (b := b) (nm := 2 * i + 1) (s := ds) hz hb (by omega) (by omega)
    have eN : 2 * nI i + 1 = nI (2 * i + 1) := by rw [ix_2, nI_1]
    by_cases cr : r0 = 0
    · subst cr
      obtain ⟨hf1, hf2⟩ := hf rfl
      by_cases ce : en = ds + dl
      · refine ⟨0, -1, m, nI ds, pt, c, fun _ => Or.inr ⟨hf1, nI_n1 (by omega)⟩, fun xca xli xtt xpf xbs xbi xwe xda xpc xpr xic xrp xne xsn xss xbu xst xse xpl xs xty xcl xtl xds xdl xva xnm xns xna xnp post h1 h2 h3 v0 n0 p0 hp => ?_, ?_⟩
        · refine And.intro iv (nm_r (ER _ _ h1) (And.intro iv (nm_r (ER _ _ h2) (And.intro iv (nm_r (ER _ _ h3) (br_f t1 (br_f t15 (br_f t16 (x_pl cp (br_f (by decide) ?_))))))))))
          unfold wpX_readDataName
          refine hX xca xli xtt xpf xbs xbi xwe xda xpc xpr xic xrp xne xsn xss xbu xst xse xpl xs xty xcl xtl xds xdl xva xnm xns xna xnp _ _ _ rfl eN (fun xne' xnm' xns' xnp' hr => ?_)
          exact br_t rfl (br_t (by rw [(hr.2.2.2 rfl).1, ce, nI_add]) (hp _ _ _ _ _ _ (cx_n hr (fun j hj => rfl) (fun _ => ⟨rfl, v0⟩))))
        · intro yca yli ytt ypf ybs ybi ypr yic yne yie yde ysn yss ybu yst yse yps ypn yfa yfs ynn fo post g6 g9 g10 g1 hp
          refine y_c51 hlt (br_f t15 (br_f t15 ?_))
          unfold wY_checkData_79
          refine hY yca yli ytt ypf ybs ybi ypr yic yne yie yde ysn yss ybu yst yse yps ypn yfa yfs ynn fo 1 _ _ (by decide) rfl (fun yne' yfa' fo' yfs' hr => ?_)
          exact br_t rfl (br_t (by rw [(hr.2.2.2 rfl).1, ce, nI_add]) (br_f t15 (hp _ _ _ _ (cy_n hr (fun j hj => rfl) (fun _ => ⟨rfl, (hr.2.2.1 6 (by decide) (by decide)).trans g6⟩)))))
      · have te : ¬ nI en = nI ds + nI dl := by rw [nI_add]; exact ne_l ce (by omega) (by omega)
        refine ⟨8, 0, m, nI ds, pt, c, fun e => absurd e (by decide), fun xca xli xtt xpf xbs xbi xwe xda xpc xpr xic xrp xne xsn xss xbu xst xse xpl xs xty xcl xtl xds xdl xva xnm xns xna xnp post h1 h2 h3 v0 n0 p0 hp => ?_, ?_⟩
        · refine And.intro iv (nm_r (ER _ _ h1) (And.intro iv (nm_r (ER _ _ h2) (And.intro iv (nm_r (ER _ _ h3) (br_f t1 (br_f t15 (br_f t16 (x_pl cp (br_f (by decide) ?_))))))))))
          unfold wpX_readDataName
          refine hX xca xli xtt xpf xbs xbi xwe xda xpc xpr xic xrp xne xsn xss xbu xst xse xpl xs xty xcl xtl xds xdl xva xnm xns xna xnp _ _ _ rfl eN (fun xne' xnm' xns' xnp' hr => ?_)
          exact br_t rfl (br_f (by rw [(hr.2.2.2 rfl).1]; exact te) (hp _ _ _ _ _ _ (cx_n hr (fun j hj => rfl) (fun e => absurd e (by decide)))))
        · intro yca yli ytt ypf ybs ybi ypr yic yne yie yde ysn yss ybu yst yse yps ypn yfa yfs ynn fo post g6 g9 g10 g1 hp
          refine y_c51 hlt (br_f t15 (br_f t15 ?_))
          unfold wY_checkData_79
          refine hY yca yli ytt ypf ybs ybi ypr yic yne yie yde ysn yss ybu yst yse yps ypn yfa yfs ynn fo 1 _ _ (by decide) rfl (fun yne' yfa' fo' yfs' hr => ?_)
          exact br_t rfl (br_f (by rw [(hr.2.2.2 rfl).1]; exact te) (hp _ _ _ _ (cy_n hr (fun j hj => rfl) (fun e => absurd e (by decide)))))
    · refine ⟨r0, 0, m, nI ds, pt, c, fun e => absurd e cr, fun xca xli xtt xpf xbs xbi xwe xda xpc xpr xic xrp xne xsn xss xbu xst xse xpl xs xty xcl xtl xds xdl xva xnm xns xna xnp post h1 h2 h3 v0 n0 p0 hp => ?_, ?_⟩
      · refine And.intro iv (nm_r (ER _ _ h1) (And.intro iv (nm_r (ER _ _ h2) (And.intro iv (nm_r (ER _ _ h3) (br_f t1 (br_f t15 (br_f t16 (x_pl cp (br_f (by decide) ?_))))))))))
        unfold wpX_readDataName
        refine hX xca xli xtt xpf xbs xbi xwe xda xpc xpr xic xrp xne xsn xss xbu xst xse xpl xs xty xcl xtl xds xdl xva xnm xns xna xnp _ _ _ rfl eN (fun xne' xnm' xns' xnp' hr => ?_)
        exact br_f cr (hp _ _ _ _ _ _ (cx_n hr (fun j hj => rfl) (fun e => absurd e cr)))
      · intro yca yli ytt ypf ybs ybi ypr yic yne yie yde ysn yss ybu yst yse yps ypn yfa yfs ynn fo post g6 g9 g10 g1 hp
        refine y_c51 hlt (br_f t15 (br_f t15 ?_))
        unfold wY_checkData_79
        refine hY yca yli ytt ypf ybs ybi ypr yic yne yie yde ysn yss ybu yst yse yps ypn yfa yfs ynn fo 1 _ _ (by decide) rfl (fun yne' yfa' fo' yfs' hr => ?_)
        exact br_f cr (hp _ _ _ _ (cy_n hr (fun j hj => rfl) (fun e => absurd e cr)))
  · refine ⟨0, -1, 0, -1, -1, fun _ => 0, fun _ => Or.inl ⟨rfl, rfl⟩, fun xca xli xtt xpf xbs xbi xwe xda xpc xpr xic xrp xne xsn xss xbu xst xse xpl xs xty xcl xtl xds xdl xva xnm xns xna xnp post h1 h2 h3 v0 n0 p0 hp => ?_, ?_⟩
    · refine And.intro iv (nm_r (ER _ _ h1) (And.intro iv (nm_r (ER _ _ h2) (And.intro iv (nm_r (ER _ _ h3) (br_f t1 (br_f t15 (br_f t16 (x_npl cp (br_t rfl ?_))))))))))
      exact hp _ _ _ _ _ _ ⟨fun _ _ => rfl, fun _ _ => rfl, fun _ _ => ⟨rfl, rfl, rfl⟩, fun _ => ⟨v0, n0, p0, fun h => absurd rfl h⟩⟩
    · intro yca yli ytt ypf ybs ybi ypr yic yne yie yde ysn yss ybu yst yse yps ypn yfa yfs ynn fo post g6 g9 g10 g1 hp
      exact br_f t1 (br_f (fun e => cp (Or.inl e)) (br_f (fun e => cp (Or.inr (Or.inl e))) (br_f (fun e => cp (Or.inr (Or.inr e))) (br_f t15 (br_f t16 (hp _ _ _ _ ⟨fun _ _ _ _ => rfl, fun _ _ => rfl, rfl, fun _ => ⟨g6, by rw [g9, m1_l], by rw [g10, m1_l], g1, fun j hj => absurd hj (Nat.not_lt_zero j)⟩⟩))))))
end CHECK
end
section
/-! decodeItem: one outcome -/
section ITEM
variable {xca xli xtt xpf xbs xbi xwe xda xpc xis xpr xic xrp xne : Int32} {xsn xss xbu xst xse xpl xin xs xty xcl : Nat → Int32} {xtl : Nat → Int64} {xds xdl : Nat → Int32} {xva : Nat → Int64} {xnm xns xna xnp : Nat → Int32}
variable {yca yli ytt ypf ybs ybi yis ypr yic yne yie yde : Int32} {ysn yss ybu yst yse yps ypn yin : Nat → Int32} {yfa : Nat → Int64} {yfo yfs : Nat → Int32} {ynn : Nat}
variable {b fo c : Nat → Nat}
def fc_ (a0 a1 a2 a3 a4 a5 a6 a7 a8 a9 a10 : Int64) : Nat → Int64
  | 0 => a0 | 1 => a1 | 2 => a2 | 3 => a3 | 4 => a4 | 5 => a5 | 6 => a6 | 7 => a7 | 8 => a8 | 9 => a9 | _ => a10
theorem fc_all {f : Nat → Int64} {a0 a1 a2 a3 a4 a5 a6 a7 a8 a9 a10 : Int64} (h0 : f 0 = a0) (h1 : f 1 = a1) (h2 : f 2 = a2) (h3 : f 3 = a3) (h4 : f 4 = a4) (h5 : f 5 = a5) (h6 : f 6 = a6) (h7 : f 7 = a7) (h8 : f 8 = a8) (h9 : f 9 = a9) (h10 : f 10 = a10) : ∀ k, k < 11 → f k = fc_ a0 a1 a2 a3 a4 a5 a6 a7 a8 a9 a10 k
  | 0, _ => h0 | 1, _ => h1 | 2, _ => h2 | 3, _ => h3 | 4, _ => h4 | 5, _ => h5 | 6, _ => h6 | 7, _ => h7 | 8, _ => h8 | 9, _ => h9 | 10, _ => h10
  | k + 11, h => by omega
/-- X's frame of an item -/
def xf_ (i : Nat) (xs xty xcl : Nat → Int32) (xtl : Nat → Int64) (xds xdl : Nat → Int32) (xva : Nat → Int64) (xnm xns xna xnp : Nat → Int32) (xs' xty' xcl' : Nat → Int32) (xtl' : Nat → Int64) (xds' xdl' : Nat → Int32) (xva' : Nat → Int64) (xnm' xns' xna' xnp' : Nat → Int32) : Prop :=
  (∀ j, j ≠ i → xs' j = xs j ∧ xty' j = xty j ∧ xcl' j = xcl j ∧ xtl' j = xtl j ∧ xds' j = xds j ∧ xdl' j = xdl j ∧ xva' j = xva j) ∧
  (∀ j, (j < 128 * i ∨ 128 * i + 128 ≤ j) → xnm' j = xnm j) ∧ (∀ j, j ≠ 2 * i → j ≠ 2 * i + 1 → xns' j = xns j ∧ xna' j = xna j ∧ xnp' j = xnp j)
def dy_ (r : Int32) (p' : Nat) (F : Nat → Int64) (m0 m1 : Nat) (c0 c1 : Nat → Nat) (yie' : Int32) (yfa' : Nat → Int64) (fo' : Nat → Nat) (yfs' : Nat → Int32) : Prop :=
  r = 0 → yie' = nI p' ∧ (∀ k, k < 11 → yfa' k = F k) ∧ yfs' 0 = nI m0 ∧ yfs' 1 = nI m1 ∧ (∀ j, j < m0 → fo' j = c0 j) ∧ (∀ j, j < m1 → fo' (64 + j) = c1 j)
theorem xf_mk {i p m0 m1 en : Nat} {r0 r1 pt0 pt1 s1 xne' : Int32} {V : Int64} {c0 c1 : Nat → Nat} {xs' xty' xcl' : Nat → Int32} {xtl' : Nat → Int64} {xds' xdl' : Nat → Int32} {xva2 : Nat → Int64} {xnm1 xns1 xnp1 xnm2 xns2 xna2 xnp2 : Nat → Int32}
    (hr : rx_ (2 * i) xnm xns (upd xnp (2 * i + 1) (-1)) r0 m0 pt0 en c0 xne' xnm1 xns1 xnp1) (hc : cx_ i (vp_updL xva i (-1)) xnm1 xns1 (upd (upd xna (2 * i + 1) (-1)) (2 * i) (nI p)) xnp1 r1 V m1 s1 pt1 c1 xva2 xnm2 xns2 xna2 xnp2)
    (f1 : ∀ j, j ≠ i → xs' j = xs j ∧ xty' j = xty j ∧ xcl' j = xcl j ∧ xtl' j = xtl j ∧ xds' j = xds j ∧ xdl' j = xdl j) : xf_ i xs xty xcl xtl xds xdl xva xnm xns xna xnp xs' xty' xcl' xtl' xds' xdl' xva2 xnm2 xns2 xna2 xnp2 := by
  refine ⟨fun j hj => ?_, fun j hj => ?_, fun j h1 h2 => ?_⟩
  · obtain ⟨a1, a2, a3, a4, a5, a6⟩ := f1 j hj
    exact ⟨a1, a2, a3, a4, a5, a6, (hc.1 j hj).trans (pk_uLn hj)⟩
  · exact (hc.2.1 j (by omega)).trans (hr.1 j (by omega))
  · obtain ⟨a1, a2, a3⟩ := hc.2.2.1 j h2
    exact ⟨a1.trans (hr.2.1 j h1), by rw [a2, pk_un h1, pk_un h2], by rw [a3, hr.2.2.1 j h1, pk_un h2]⟩
theorem xi_mk {i p m0 m1 en sec ty cl : Nat} {pt0 pt1 s1 xne' : Int32} {V : Int64} {c0 c1 : Nat → Nat} {xtl' : Nat → Int64} {xds' xdl' : Nat → Int32} {xva2 : Nat → Int64} {xnm1 xns1 xnp1 xnm2 xns2 xna2 xnp2 : Nat → Int32}
    (hr : rx_ (2 * i) xnm xns (upd xnp (2 * i + 1) (-1)) 0 m0 pt0 en c0 xne' xnm1 xns1 xnp1) (hm0 : m0 ≤ 64) (hc : cx_ i (vp_updL xva i (-1)) xnm1 xns1 (upd (upd xna (2 * i + 1) (-1)) (2 * i) (nI p)) xnp1 0 V m1 s1 pt1 c1 xva2 xnm2 xns2 xna2 xnp2)
    (hm : (m1 = 0 ∧ s1 = -1) ∨ (nf_ m1 c1 ∧ ¬ s1 = -1)) (hp : p < 2 ^ 31) (hty : ty < 2 ^ 31) (hcl : cl < 2 ^ 31) :
    xi_ i (upd xs i (nI sec)) (upd xty i (nI ty)) (upd xcl i (nI cl)) xtl' xds' xdl' xva2 xnm2 xns2 xna2 xnp2 (fc_ (nI sec).toInt64 (lN ty) (lN cl) (xtl' i) (xds' i).toInt64 (xdl' i).toInt64 V (nI p).toInt64 pt0.toInt64 s1.toInt64 pt1.toInt64) m0 m1 c0 c1 := by
  obtain ⟨r1, r2, r3, r4⟩ := hr.2.2.2 rfl
  obtain ⟨k1, k2, k3, k4⟩ := hc.2.2.2 rfl
  obtain ⟨a1, a2, a3⟩ := hc.2.2.1 (2 * i) (by omega)
  have e7 : xna2 (2 * i) = nI p := by rw [a2, pk_us]
  have e8 : xnp2 (2 * i) = pt0 := by rw [a3, r4]
  refine ⟨⟨by rw [pk_us]; rfl, by rw [pk_us, nI_l hty]; rfl, by rw [pk_us, nI_l hcl]; rfl, rfl, rfl, rfl, k1, by rw [e7]; rfl, by rw [e8]; rfl, by rw [k2]; rfl, by rw [k3]; rfl⟩, ⟨by rw [a1, r3], fun j hj => ?_, by rw [e7]; exact nI_n1 hp⟩, ?_⟩
  · rw [hc.2.1 _ (by omega)]
    exact r2 j hj
  · rcases hm with ⟨y1, y2⟩ | ⟨y1, y2⟩
    · exact Or.inl ⟨y1, by rw [k2]; exact y2⟩
    · have := wn_lt y1.2.2
      obtain ⟨k5, k6⟩ := k4 (by omega)
      exact Or.inr ⟨by omega, by rw [k2]; exact y2, k5, k6⟩
theorem cx_rf {i : Nat} (v0 : xva i = -1) (n0 : xna (2 * i + 1) = -1) (p0 : xnp (2 * i + 1) = -1) : cx_ i xva xnm xns xna xnp 0 (-1) 0 (-1) (-1) c xva xnm xns xna xnp :=
  ⟨fun _ _ => rfl, fun _ _ => rfl, fun _ _ => ⟨rfl, rfl, rfl⟩, fun _ => ⟨v0, n0, p0, fun h => absurd rfl h⟩⟩
/-! Y: the facts are cleared -/
theorem ar_bL {A f : Nat → Int64} {a n : Nat} : vp_updL (ar_bw A a f n) (a + n) (f n) = ar_bw A a f (n + 1) := by
  funext j
  by_cases h : j = a + n
  · subst h; rw [pk_uLs, ar_bi (by omega) (by omega), Nat.add_sub_cancel_left]
  · rw [pk_uLn h]
    by_cases h2 : j < a ∨ a + n ≤ j
    · rw [ar_bo h2, ar_bo (by omega)]
    · rw [ar_bi (by omega) (by omega), ar_bi (by omega) (by omega)]
def f0_ (yfa : Nat → Int64) : Nat → Int64 := ar_bw yfa 0 (fun _ => -1) 11
theorem f0_e {j : Nat} (h : j < 11) : f0_ yfa j = -1 := ar_bi (by omega) (by omega)
theorem y_fi {post : Int32 → SY → Prop} {x1 x2 : Int32} (h : wY_decodeItem_2 post x1 x2 yca yli ytt ypf ybs ybi yis ypr yic yne yie yde ynn 1 (nI 11) ysn yss ybu yst yse yps ypn yin (f0_ yfa) yfo yfs) :
    ∀ d k n, k + d = 11 → d < n → wY_decodeItem_2 post x1 x2 yca yli ytt ypf ybs ybi yis ypr yic yne yie yde ynn n (nI k) ysn yss ybu yst yse yps ypn yin (ar_bw yfa 0 (fun _ => -1) k) yfo yfs := by
  intro d
  induction d with
  | zero =>
    intro k n h1 h2
    obtain ⟨n, rfl⟩ : ∃ m, n = m + 1 := ⟨n - 1, by omega⟩
    have e : k = 11 := by omega
    subst e
    exact br_t (by decide) (And.left h (by decide))
  | succ d ih =>
    intro k n h1 h2
    obtain ⟨n, rfl⟩ : ∃ m, n = m + 1 := ⟨n - 1, by omega⟩
    have K := ih (k + 1) n (by omega) (by omega)
    rw [← ar_bL, Nat.zero_add] at K
    exact br_f (nI_ge (b := 11) (by omega) (by decide)) ⟨vp_in_nI (by omega) (by decide), nm_r (ar_sL k) (nm_r (nI_1 k) K)⟩
theorem y_di {post : Int32 → SY → Prop} {x1 x2 : Int32} (h : wY_decodeItem_2 post x1 x2 yca yli ytt ypf ybs ybi yis ypr yic yne yie yde ynn 1 (nI 11) ysn yss ybu yst yse yps ypn yin (f0_ yfa) yfo yfs) : wpY_decodeItem post (yca, yli, ytt, ypf, ybs, ybi, yis, ypr, yic, yne, yie, yde, ysn, yss, ybu, yst, yse, yps, ypn, yin, yfa, yfo, yfs, ynn) x1 x2 := by
  have K := y_fi h 11 0 12 rfl (by decide)
  rw [ar_b0] at K
  exact ⟨12, K⟩
end ITEM
end
section
/-! decodeItem: the walk -/
section DITEM
variable {xca xli xtt xpf xbs xbi xwe xda xpc xis xpr xic xrp xne : Int32} {xsn xss xbu xst xse xpl xin xs xty xcl : Nat → Int32} {xtl : Nat → Int64} {xds xdl : Nat → Int32} {xva : Nat → Int64} {xnm xns xna xnp : Nat → Int32}
variable {yca yli ytt ypf ybs ybi yis ypr yic yne yie yde : Int32} {ysn yss ybu yst yse yps ypn yin : Nat → Int32} {yfa : Nat → Int64} {yfo yfs : Nat → Int32} {ynn : Nat}
variable {b fo c c0 : Nat → Nat}
theorem na_4 (a : Nat) : nI a + 4 = nI (a + 4) := nI_add a 4
theorem na_8 (a : Nat) : nI a + 8 = nI (a + 8) := nI_add a 8
theorem na_10 (a : Nat) : nI a + 10 = nI (a + 10) := nI_add a 10
theorem cx_id {i : Nat} : cx_ i xva xnm xns xna xnp 8 0 0 0 0 (fun _ => 0) xva xnm xns xna xnp := cx_no (by decide)
theorem x_dip {post : Int32 → SX → Prop} {r0 pt0 fx : Int32} {z i p sec m0 en : Nat} (hi : i < 16) (fx0 : sec = 0 → fx = 4) (fx1 : sec ≠ 0 → fx = 10) (hsec : sec < 4)
    (hX : ∀ (ps pn : Int32) (post : Int32 → SX → Prop), ps = nI p → pn = nI (2 * i) → (∀ (xne' : Int32) (xnm' xns' xnp' : Nat → Int32), rx_ (2 * i) xnm xns (upd xnp (2 * i + 1) (-1)) r0 m0 pt0 en c0 xne' xnm' xns' xnp' → post r0 (xca, xli, xtt, xpf, xbs, xbi, xwe, xda, xpc, nI z, xpr, nI i, nI p, xne', xsn, xss, xbu, xst, xse, xpl, ar_I b, upd xs i (nI sec), xty, xcl, vp_updL xtl i (-1), upd xds i (-1), upd xdl i (-1), vp_updL xva i (-1), xnm', xns', upd (upd xna (2 * i + 1) (-1)) (2 * i) (nI p), xnp')) → wpX_readName post (xca, xli, xtt, xpf, xbs, xbi, xwe, xda, xpc, nI z, xpr, nI i, nI p, xne, xsn, xss, xbu, xst, xse, xpl, ar_I b, upd xs i (nI sec), xty, xcl, vp_updL xtl i (-1), upd xds i (-1), upd xdl i (-1), vp_updL xva i (-1), xnm, xns, upd xna (2 * i + 1) (-1), upd xnp (2 * i + 1) (-1)) ps pn)
    (h0 : r0 = 0 → ∀ (xne' : Int32) (xnm' xns' xnp' : Nat → Int32), rx_ (2 * i) xnm xns (upd xnp (2 * i + 1) (-1)) r0 m0 pt0 en c0 xne' xnm' xns' xnp' → wX_decodeItem_102 post (nI sec) (nI i) fx xca xli xtt xpf xbs xbi xwe xda xpc (nI z) xpr (nI i) xne' xne' xsn xss xbu xst xse xpl (ar_I b) (upd xs i (nI sec)) xty xcl (vp_updL xtl i (-1)) (upd xds i (-1)) (upd xdl i (-1)) (vp_updL xva i (-1)) xnm' xns' (upd (upd xna (2 * i + 1) (-1)) (2 * i) (nI p)) xnp')
    (h1 : ¬ r0 = 0 → ∀ (xne' : Int32) (xnm' xns' xnp' : Nat → Int32), rx_ (2 * i) xnm xns (upd xnp (2 * i + 1) (-1)) r0 m0 pt0 en c0 xne' xnm' xns' xnp' → post r0 (xca, xli, xtt, xpf, xbs, xbi, xwe, xda, xpc, nI z, xpr, nI i, nI p, xne', xsn, xss, xbu, xst, xse, xpl, ar_I b, upd xs i (nI sec), xty, xcl, vp_updL xtl i (-1), upd xds i (-1), upd xdl i (-1), vp_updL xva i (-1), xnm', xns', upd (upd xna (2 * i + 1) (-1)) (2 * i) (nI p), xnp')) :
    wpX_decodeItem post (xca, xli, xtt, xpf, xbs, xbi, xwe, xda, xpc, nI z, xpr, nI i, nI p, xne, xsn, xss, xbu, xst, xse, xpl, ar_I b, xs, xty, xcl, xtl, xds, xdl, xva, xnm, xns, xna, xnp) (nI sec) := by
  have iv : vp_in (nI i) 16 := vp_in_nI hi (by decide)
  have eN : 2 * nI i + 1 = nI (2 * i + 1) := by rw [ix_2, nI_1]
  have iN : vp_in (2 * nI i + 1) 32 := pk_in (2 * i + 1) 32 (by omega) eN
  refine And.intro iv (nm_r (ar_sI i) (And.intro iv (nm_r (ar_sL i) (And.intro iv (nm_r (ar_sI i) (And.intro iv (nm_r (ar_sI i) (And.intro iv (nm_r (ar_sL i) (And.intro iN (nm_r (ar_sI (2 * i + 1) eN) (And.intro iN (nm_r (ar_sI (2 * i + 1) eN) ?_)))))))))))))
  refine hX _ _ _ rfl (ix_2 i) (fun xne' xnm' xns' xnp' hr => br_c (fun e => ?_) (fun e => h1 e _ _ _ _ hr))
  by_cases y : sec = 0
  · have h := h0 e _ _ _ _ hr
    rw [fx0 y] at h
    exact br_t (by rw [y]; rfl) h
  · have h := h0 e _ _ _ _ hr
    rw [fx1 y] at h
    exact br_f (fun q => y ((nI_i0 (by omega)).mp q)) h
theorem x_102q {post : Int32 → SX → Prop} {z i en : Nat} (hz : z ≤ 255) (hb : ∀ j, b j < 256) (hi : i < 16) (he : en + 4 ≤ z) (h : post 0 (xca, xli, xtt, xpf, xbs, xbi, xwe, xda, xpc, nI z, xpr, xic, nI (en + 4), xne, xsn, xss, xbu, xst, xse, xpl, ar_I b, xs, upd xty i (nI (t2_ b en)), upd xcl i (nI (t2_ b (en + 2))), xtl, xds, xdl, xva, xnm, xns, xna, xnp)) :
    wX_decodeItem_102 post (nI 0) (nI i) 4 xca xli xtt xpf xbs xbi xwe xda xpc (nI z) xpr xic (nI en) xne xsn xss xbu xst xse xpl (ar_I b) xs xty xcl xtl xds xdl xva xnm xns xna xnp := by
  have iv : vp_in (nI i) 16 := vp_in_nI hi (by decide)
  refine br_t (by rw [na_4]; exact nI_le he (by omega)) (x_two rfl (by omega) hb ⟨iv, nm_r (ar_sI i) (x_two (na_2 en) (by omega) hb ⟨iv, nm_r (ar_sI i) (br_t rfl ?_)⟩)⟩)
  unfold wX_decodeItem_187
  exact nm_r (na_4 en) (br_t rfl h)
theorem x_102r {post : Int32 → SX → Prop} {z i en sec dl : Nat} (hz : z ≤ 255) (hb : ∀ j, b j < 256) (hi : i < 16) (he : en + 10 ≤ z) (hs : ¬ nI sec = 0) (hdl : t2_ b (en + 8) = dl)
    (h4 : z < en + 10 + dl → post 4 (xca, xli, xtt, xpf, xbs, xbi, xwe, xda, xpc, nI z, xpr, xic, nI (en + 10), xne, xsn, xss, xbu, xst, xse, xpl, ar_I b, xs, upd xty i (nI (t2_ b en)), upd xcl i (nI (t2_ b (en + 2))), vp_updL xtl i (lN (t4_ b (en + 4))), upd xds i (nI (en + 10)), upd xdl i (nI dl), xva, xnm, xns, xna, xnp))
    (h0 : en + 10 + dl ≤ z → t2_ b (en + 2) ≠ 1 → post 0 (xca, xli, xtt, xpf, xbs, xbi, xwe, xda, xpc, nI z, xpr, xic, nI (en + 10 + dl), xne, xsn, xss, xbu, xst, xse, xpl, ar_I b, xs, upd xty i (nI (t2_ b en)), upd xcl i (nI (t2_ b (en + 2))), vp_updL xtl i (lN (t4_ b (en + 4))), upd xds i (nI (en + 10)), upd xdl i (nI dl), xva, xnm, xns, xna, xnp))
    (h1 : en + 10 + dl ≤ z → t2_ b (en + 2) = 1 → ∃ (r : Int32) (Q : Int32 → (Nat → Int64) → (Nat → Int32) → (Nat → Int32) → (Nat → Int32) → (Nat → Int32) → Prop), (∀ post : Int32 → SX → Prop, (∀ (xne' : Int32) (xva' : Nat → Int64) (xnm' xns' xna' xnp' : Nat → Int32), Q xne' xva' xnm' xns' xna' xnp' → post r (xca, xli, xtt, xpf, xbs, xbi, xwe, xda, xpc, nI z, xpr, xic, nI (en + 10), xne', xsn, xss, xbu, xst, xse, xpl, ar_I b, xs, upd xty i (nI (t2_ b en)), upd xcl i (nI (t2_ b (en + 2))), vp_updL xtl i (lN (t4_ b (en + 4))), upd xds i (nI (en + 10)), upd xdl i (nI dl), xva', xnm', xns', xna', xnp')) → wpX_checkData post (xca, xli, xtt, xpf, xbs, xbi, xwe, xda, xpc, nI z, xpr, xic, nI (en + 10), xne, xsn, xss, xbu, xst, xse, xpl, ar_I b, xs, upd xty i (nI (t2_ b en)), upd xcl i (nI (t2_ b (en + 2))), vp_updL xtl i (lN (t4_ b (en + 4))), upd xds i (nI (en + 10)), upd xdl i (nI dl), xva, xnm, xns, xna, xnp) (nI i)) ∧
      (∀ (xne' : Int32) (xva' : Nat → Int64) (xnm' xns' xna' xnp' : Nat → Int32), Q xne' xva' xnm' xns' xna' xnp' → (r = 0 → post 0 (xca, xli, xtt, xpf, xbs, xbi, xwe, xda, xpc, nI z, xpr, xic, nI (en + 10 + dl), xne', xsn, xss, xbu, xst, xse, xpl, ar_I b, xs, upd xty i (nI (t2_ b en)), upd xcl i (nI (t2_ b (en + 2))), vp_updL xtl i (lN (t4_ b (en + 4))), upd xds i (nI (en + 10)), upd xdl i (nI dl), xva', xnm', xns', xna', xnp')) ∧ (¬ r = 0 → post r (xca, xli, xtt, xpf, xbs, xbi, xwe, xda, xpc, nI z, xpr, xic, nI (en + 10), xne', xsn, xss, xbu, xst, xse, xpl, ar_I b, xs, upd xty i (nI (t2_ b en)), upd xcl i (nI (t2_ b (en + 2))), vp_updL xtl i (lN (t4_ b (en + 4))), upd xds i (nI (en + 10)), upd xdl i (nI dl), xva', xnm', xns', xna', xnp')))) :
    wX_decodeItem_102 post (nI sec) (nI i) 10 xca xli xtt xpf xbs xbi xwe xda xpc (nI z) xpr xic (nI en) xne xsn xss xbu xst xse xpl (ar_I b) xs xty xcl xtl xds xdl xva xnm xns xna xnp := by
  have iv : vp_in (nI i) 16 := vp_in_nI hi (by decide)
  have hdl2 : dl < 65536 := by rw [← hdl]; exact t2_lt hb
  have hc2 : t2_ b (en + 2) < 65536 := t2_lt hb
  refine br_t (by rw [na_10]; exact nI_le he (by omega)) (x_two rfl (by omega) hb ⟨iv, nm_r (ar_sI i) (x_two (na_2 en) (by omega) hb ⟨iv, nm_r (ar_sI i) (br_f hs ?_)⟩)⟩)
  refine x_four (na_4 en) (by omega) hb ⟨iv, nm_r (ar_sL i) ?_⟩
  refine x_two (na_8 en) (by omega) hb ⟨iv, nm_r (ar_sI i) ?_⟩
  rw [hdl]
  unfold wX_decodeItem_187
  refine nm_r (na_10 en) (br_f hs ⟨iv, nm_r (ar_sI i) ⟨iv, nm_r (e' := nI dl) (by rw [nI_clamp (by omega), pk_us]) ?_⟩⟩)
  by_cases y : en + 10 + dl ≤ z
  · refine br_t (by rw [nI_add]; exact nI_le y (by omega)) ⟨iv, ?_⟩
    have e1 : upd xcl i (nI (t2_ b (en + 2))) (nI i).toNatClampNeg = nI (t2_ b (en + 2)) := by rw [nI_clamp (by omega), pk_us]
    by_cases y1 : t2_ b (en + 2) = 1
    · obtain ⟨r, Q, k1, k2⟩ := h1 y y1
      refine br_t (by rw [e1, y1]; rfl) ?_
      refine k1 _ (fun xne' xva' xnm' xns' xna' xnp' hq => br_c (fun e => ?_) (fun e => (k2 _ _ _ _ _ _ hq).2 e))
      unfold wX_decodeItem_260
      exact nm_r (nI_add _ _) ((k2 _ _ _ _ _ _ hq).1 e)
    · refine br_f (by rw [e1]; exact ne_l y1 (by omega) (by decide)) ?_
      unfold wX_decodeItem_260
      exact nm_r (nI_add _ _) (h0 y y1)
  · exact br_f (by rw [nI_add]; exact nI_ge (by omega) (by omega)) (h4 (by omega))
theorem y_dip {post : Int32 → SY → Prop} {r0 pt0 fx : Int32} {z p sec m0 en : Nat} (fx0 : sec = 0 → fx = 4) (fx1 : sec ≠ 0 → fx = 10) (hsec : sec < 4)
    (hY : ∀ (ps : Int32) (post : Int32 → SY → Prop), ps = nI p → (∀ (yne' : Int32) (yfa' : Nat → Int64) (fo' : Nat → Nat) (yfs' : Nat → Int32), ry_ p 0 (vp_updL (f0_ yfa) 0 (nI sec).toInt64) fo (upd yfs 1 0) r0 m0 pt0 en c0 yne' yfa' fo' yfs' → post r0 (yca, yli, ytt, ypf, ybs, ybi, nI z, ypr, yic, yne', yie, yde, ysn, yss, ybu, yst, yse, yps, ypn, ar_I b, yfa', ar_I fo', yfs', ynn)) → wpY_readName post (yca, yli, ytt, ypf, ybs, ybi, nI z, ypr, yic, yne, yie, yde, ysn, yss, ybu, yst, yse, yps, ypn, ar_I b, vp_updL (f0_ yfa) 0 (nI sec).toInt64, ar_I fo, upd yfs 1 0, ynn) ps (nI 0))
    (h0 : r0 = 0 → ∀ (yne' : Int32) (yfa' : Nat → Int64) (fo' : Nat → Nat) (yfs' : Nat → Int32), ry_ p 0 (vp_updL (f0_ yfa) 0 (nI sec).toInt64) fo (upd yfs 1 0) r0 m0 pt0 en c0 yne' yfa' fo' yfs' → wY_decodeItem_70 post (nI sec) yne' fx yne' yca yli ytt ypf ybs ybi (nI z) ypr yic yne' yie yde ysn yss ybu yst yse yps ypn (ar_I b) yfa' (ar_I fo') yfs' ynn)
    (h1 : ¬ r0 = 0 → ∀ (yne' : Int32) (yfa' : Nat → Int64) (fo' : Nat → Nat) (yfs' : Nat → Int32), ry_ p 0 (vp_updL (f0_ yfa) 0 (nI sec).toInt64) fo (upd yfs 1 0) r0 m0 pt0 en c0 yne' yfa' fo' yfs' → post r0 (yca, yli, ytt, ypf, ybs, ybi, nI z, ypr, yic, yne', yie, yde, ysn, yss, ybu, yst, yse, yps, ypn, ar_I b, yfa', ar_I fo', yfs', ynn)) :
    wpY_decodeItem post (yca, yli, ytt, ypf, ybs, ybi, nI z, ypr, yic, yne, yie, yde, ysn, yss, ybu, yst, yse, yps, ypn, ar_I b, yfa, ar_I fo, yfs, ynn) (nI p) (nI sec) := by
  refine y_di (br_t (by decide) (nm_e (nm_e ?_)))
  refine hY _ _ rfl (fun yne' yfa' fo' yfs' hr => br_c (fun e => ?_) (fun e => h1 e _ _ _ _ hr))
  by_cases y : sec = 0
  · have h := h0 e _ _ _ _ hr
    rw [fx0 y] at h
    exact br_t (by rw [y]; rfl) h
  · have h := h0 e _ _ _ _ hr
    rw [fx1 y] at h
    exact br_f (fun q => y ((nI_i0 (by omega)).mp q)) h
/-! the facts after the fixed part -/
def g2_ (f : Nat → Int64) (ty cl : Int64) : Nat → Int64 := vp_updL (vp_updL f 1 ty) 2 cl
def g5_ (f : Nat → Int64) (ty cl tt ds dl : Int64) : Nat → Int64 := vp_updL (vp_updL (vp_updL (g2_ f ty cl) 3 tt) 4 ds) 5 dl
theorem y_70q {post : Int32 → SY → Prop} {z en : Nat} (hz : z ≤ 255) (hb : ∀ j, b j < 256) (he : en + 4 ≤ z) (h : post 0 (yca, yli, ytt, ypf, ybs, ybi, nI z, ypr, yic, yne, nI (en + 4), yde, ysn, yss, ybu, yst, yse, yps, ypn, ar_I b, g2_ yfa (lN (t2_ b en)) (lN (t2_ b (en + 2))), yfo, yfs, ynn)) :
    wY_decodeItem_70 post (nI 0) (nI en) 4 (nI en) yca yli ytt ypf ybs ybi (nI z) ypr yic yne yie yde ysn yss ybu yst yse yps ypn (ar_I b) yfa yfo yfs ynn := by
  unfold wY_decodeItem_70
  refine nm_r (na_4 en) (br_t (nI_le he (by omega)) ?_)
  refine y_two rfl (by omega) hb (nm_e ?_)
  refine y_two (na_2 en) (by omega) hb (nm_e ?_)
  exact br_t rfl h
theorem y_70r {post : Int32 → SY → Prop} {z en sec dl : Nat} (hz : z ≤ 255) (hb : ∀ j, b j < 256) (he : en + 10 ≤ z) (hs : ¬ nI sec = 0) (hdl : t2_ b (en + 8) = dl)
    (h4 : z < en + 10 + dl → post 4 (yca, yli, ytt, ypf, ybs, ybi, nI z, ypr, yic, yne, nI (en + 10 + dl), yde, ysn, yss, ybu, yst, yse, yps, ypn, ar_I b, g5_ yfa (lN (t2_ b en)) (lN (t2_ b (en + 2))) (lN (t4_ b (en + 4))) (nI (en + 10)).toInt64 (lN dl), ar_I fo, yfs, ynn))
    (h0 : en + 10 + dl ≤ z → t2_ b (en + 2) ≠ 1 → post 0 (yca, yli, ytt, ypf, ybs, ybi, nI z, ypr, yic, yne, nI (en + 10 + dl), yde, ysn, yss, ybu, yst, yse, yps, ypn, ar_I b, g5_ yfa (lN (t2_ b en)) (lN (t2_ b (en + 2))) (lN (t4_ b (en + 4))) (nI (en + 10)).toInt64 (lN dl), ar_I fo, yfs, ynn))
    (h1 : en + 10 + dl ≤ z → t2_ b (en + 2) = 1 → ∃ (r : Int32) (Q : Int32 → (Nat → Int64) → (Nat → Nat) → (Nat → Int32) → Prop), (∀ post : Int32 → SY → Prop, (∀ (yne' : Int32) (yfa' : Nat → Int64) (fo' : Nat → Nat) (yfs' : Nat → Int32), Q yne' yfa' fo' yfs' → post r (yca, yli, ytt, ypf, ybs, ybi, nI z, ypr, yic, yne', nI (en + 10 + dl), yde, ysn, yss, ybu, yst, yse, yps, ypn, ar_I b, yfa', ar_I fo', yfs', ynn)) → wpY_checkData post (yca, yli, ytt, ypf, ybs, ybi, nI z, ypr, yic, yne, nI (en + 10 + dl), yde, ysn, yss, ybu, yst, yse, yps, ypn, ar_I b, g5_ yfa (lN (t2_ b en)) (lN (t2_ b (en + 2))) (lN (t4_ b (en + 4))) (nI (en + 10)).toInt64 (lN dl), ar_I fo, yfs, ynn) (nI (t2_ b en)) (nI (en + 10)) (nI dl)) ∧ (∀ (yne' : Int32) (yfa' : Nat → Int64) (fo' : Nat → Nat) (yfs' : Nat → Int32), Q yne' yfa' fo' yfs' → post r (yca, yli, ytt, ypf, ybs, ybi, nI z, ypr, yic, yne', nI (en + 10 + dl), yde, ysn, yss, ybu, yst, yse, yps, ypn, ar_I b, yfa', ar_I fo', yfs', ynn))) :
    wY_decodeItem_70 post (nI sec) (nI en) 10 (nI en) yca yli ytt ypf ybs ybi (nI z) ypr yic yne yie yde ysn yss ybu yst yse yps ypn (ar_I b) yfa (ar_I fo) yfs ynn := by
  have hdl2 : dl < 65536 := by rw [← hdl]; exact t2_lt hb
  have hc2 : t2_ b (en + 2) < 65536 := t2_lt hb
  unfold wY_decodeItem_70
  refine nm_r (na_10 en) (br_t (nI_le he (by omega)) ?_)
  refine y_two rfl (by omega) hb (nm_e ?_)
  refine y_two (na_2 en) (by omega) hb (nm_e ?_)
  refine br_f hs ?_
  refine y_four (na_4 en) (by omega) hb (nm_e ?_)
  refine nm_r (e' := vp_updL (vp_updL (g2_ yfa (lN (t2_ b en)) (lN (t2_ b (en + 2)))) 3 (lN (t4_ b (en + 4)))) 4 (nI (en + 10)).toInt64) (by rw [na_10]; rfl) ?_
  refine y_two (na_8 en) (by omega) hb ?_
  rw [hdl]
  refine nm_r (e' := g5_ yfa (lN (t2_ b en)) (lN (t2_ b (en + 2))) (lN (t4_ b (en + 4))) (nI (en + 10)).toInt64 (lN dl)) rfl ?_
  have g5 : g5_ yfa (lN (t2_ b en)) (lN (t2_ b (en + 2))) (lN (t4_ b (en + 4))) (nI (en + 10)).toInt64 (lN dl) 5 = lN dl := rfl
  have g1 : g5_ yfa (lN (t2_ b en)) (lN (t2_ b (en + 2))) (lN (t4_ b (en + 4))) (nI (en + 10)).toInt64 (lN dl) 1 = lN (t2_ b en) := rfl
  have g2 : g5_ yfa (lN (t2_ b en)) (lN (t2_ b (en + 2))) (lN (t4_ b (en + 4))) (nI (en + 10)).toInt64 (lN dl) 2 = lN (t2_ b (en + 2)) := rfl
  refine nm_r (e' := nI (en + 10 + dl)) (by rw [g5, lN_i, nI_add]) ?_
  rw [g1, g2, g5, lN_i, lN_i, na_10]
  by_cases y : en + 10 + dl ≤ z
  · refine br_t (nI_le y (by omega)) ?_
    by_cases y1 : t2_ b (en + 2) = 1
    · obtain ⟨r, Q, k1, k2⟩ := h1 y y1
      refine br_t (by rw [y1]; rfl) ?_
      exact k1 _ (fun yne' yfa' fo' yfs' hq => k2 yne' yfa' fo' yfs' hq)
    · exact br_f (fun e => y1 ((pk_lEQ (by omega) (by decide)).mp e)) (h0 y y1)
  · exact br_f (nI_ge (by omega) (by omega)) (h4 (by omega))
end DITEM
end
section
/-! decodeItem: the outcome -/
section DI
variable {xca xli xtt xpf xbs xbi xwe xda xpc xis xpr xic xrp xne : Int32} {xsn xss xbu xst xse xpl xin xs xty xcl : Nat → Int32} {xtl : Nat → Int64} {xds xdl : Nat → Int32} {xva : Nat → Int64} {xnm xns xna xnp : Nat → Int32}
variable {yca yli ytt ypf ybs ybi yis ypr yic yne yie yde : Int32} {ysn yss ybu yst yse yps ypn yin : Nat → Int32} {yfa : Nat → Int64} {yfo yfs : Nat → Int32} {ynn : Nat}
variable {b fo c c0 : Nat → Nat}
theorem xi_mk2 {i p m0 m1 en sec ty cl : Nat} {pt0 pt1 s1 xne' : Int32} {V a3 a4 a5 : Int64} {c0 c1 : Nat → Nat} {xtl' : Nat → Int64} {xds' xdl' : Nat → Int32} {xva2 : Nat → Int64} {xnm1 xns1 xnp1 xnm2 xns2 xna2 xnp2 : Nat → Int32}
    (hr : rx_ (2 * i) xnm xns (upd xnp (2 * i + 1) (-1)) 0 m0 pt0 en c0 xne' xnm1 xns1 xnp1) (hm0 : m0 ≤ 64) (hc : cx_ i (vp_updL xva i (-1)) xnm1 xns1 (upd (upd xna (2 * i + 1) (-1)) (2 * i) (nI p)) xnp1 0 V m1 s1 pt1 c1 xva2 xnm2 xns2 xna2 xnp2)
    (hm : (m1 = 0 ∧ s1 = -1) ∨ (nf_ m1 c1 ∧ ¬ s1 = -1)) (hp : p < 2 ^ 31) (hty : ty < 2 ^ 31) (hcl : cl < 2 ^ 31) (e3 : xtl' i = a3) (e4 : (xds' i).toInt64 = a4) (e5 : (xdl' i).toInt64 = a5) :
    xi_ i (upd xs i (nI sec)) (upd xty i (nI ty)) (upd xcl i (nI cl)) xtl' xds' xdl' xva2 xnm2 xns2 xna2 xnp2 (fc_ (nI sec).toInt64 (lN ty) (lN cl) a3 a4 a5 V (nI p).toInt64 pt0.toInt64 s1.toInt64 pt1.toInt64) m0 m1 c0 c1 := by
  subst e3 e4 e5
  exact xi_mk hr hm0 hc hm hp hty hcl
theorem yb_ {p sec m0 en : Nat} {pt0 yne' : Int32} {yfa' : Nat → Int64} {fo' : Nat → Nat} {yfs' : Nat → Int32} (hr : ry_ p 0 (vp_updL (f0_ yfa) 0 (nI sec).toInt64) fo (upd yfs 1 0) 0 m0 pt0 en c0 yne' yfa' fo' yfs') :
    yne' = nI en ∧ yfa' 0 = (nI sec).toInt64 ∧ (∀ j, j ≠ 0 → j ≠ 7 → j ≠ 8 → j < 11 → yfa' j = -1) ∧ yfa' 7 = (nI p).toInt64 ∧ yfa' 8 = pt0.toInt64 ∧ yfs' 0 = nI m0 ∧ yfs' 1 = 0 ∧ ∀ j, j < m0 → fo' j = c0 j := by
  obtain ⟨h1, h2, h3, h4⟩ := hr
  obtain ⟨k1, k2, k3, k4, k5⟩ := h4 rfl
  refine ⟨k1, by rw [h3 0 (by decide) (by decide), pk_uLs], fun j j0 j7 j8 jj => by rw [h3 j j7 j8, pk_uLn j0, f0_e jj], k4, k5, k3, by rw [h2 1 (by decide), pk_us], fun j hj => ?_⟩
  have := k2 j hj
  rw [Nat.mul_zero, Nat.zero_add] at this
  exact this
theorem di_ex {z i p sec : Nat} (hz : z ≤ 255) (hb : ∀ j, b j < 256) (hi : i < 16) (hp : p ≤ z) (hsec : sec < 4) :
    ∃ (r : Int32) (p' : Nat) (F : Nat → Int64) (m0 m1 : Nat) (c0 c1 : Nat → Nat), (r = 0 → p' ≤ z ∧ nf_ m0 c0 ∧ (m1 = 0 ∨ nf_ m1 c1)) ∧
      (∀ (xca xli xtt xpf xbs xbi xwe xda xpc xpr xne : Int32) (xsn xss xbu xst xse xpl xs xty xcl : Nat → Int32) (xtl : Nat → Int64) (xds xdl : Nat → Int32) (xva : Nat → Int64) (xnm xns xna xnp : Nat → Int32) (post : Int32 → SX → Prop), (∀ (xrp' xne' : Int32) (xs' xty' xcl' : Nat → Int32) (xtl' : Nat → Int64) (xds' xdl' : Nat → Int32) (xva' : Nat → Int64) (xnm' xns' xna' xnp' : Nat → Int32), xf_ i xs xty xcl xtl xds xdl xva xnm xns xna xnp xs' xty' xcl' xtl' xds' xdl' xva' xnm' xns' xna' xnp' → (r = 0 → xrp' = nI p' ∧ xi_ i xs' xty' xcl' xtl' xds' xdl' xva' xnm' xns' xna' xnp' F m0 m1 c0 c1) → post r (xca, xli, xtt, xpf, xbs, xbi, xwe, xda, xpc, nI z, xpr, nI i, xrp', xne', xsn, xss, xbu, xst, xse, xpl, ar_I b, xs', xty', xcl', xtl', xds', xdl', xva', xnm', xns', xna', xnp')) → wpX_decodeItem post (xca, xli, xtt, xpf, xbs, xbi, xwe, xda, xpc, nI z, xpr, nI i, nI p, xne, xsn, xss, xbu, xst, xse, xpl, ar_I b, xs, xty, xcl, xtl, xds, xdl, xva, xnm, xns, xna, xnp) (nI sec)) ∧
      (∀ (yca yli ytt ypf ybs ybi ypr yic yne yie yde : Int32) (ysn yss ybu yst yse yps ypn : Nat → Int32) (yfa : Nat → Int64) (yfs : Nat → Int32) (ynn : Nat) (fo : Nat → Nat) (post : Int32 → SY → Prop), (∀ (yne' yie' : Int32) (yfa' : Nat → Int64) (fo' : Nat → Nat) (yfs' : Nat → Int32), dy_ r p' F m0 m1 c0 c1 yie' yfa' fo' yfs' → post r (yca, yli, ytt, ypf, ybs, ybi, nI z, ypr, yic, yne', yie', yde, ysn, yss, ybu, yst, yse, yps, ypn, ar_I b, yfa', ar_I fo', yfs', ynn)) → wpY_decodeItem post (yca, yli, ytt, ypf, ybs, ybi, nI z, ypr, yic, yne, yie, yde, ysn, yss, ybu, yst, yse, yps, ypn, ar_I b, yfa, ar_I fo, yfs, ynn) (nI p) (nI sec)) := by
  obtain ⟨r0, m0, pt0, en, c0, hf, hX, hY⟩ := rn_ex (b := b) (nm := 2 * i) (s := p) hz hb (by omega) (by omega)
  obtain ⟨fx, fx0, fx1⟩ : ∃ fx : Int32, (sec = 0 → fx = 4) ∧ (sec ≠ 0 → fx = 10) := by
    by_cases y : sec = 0
    · exact ⟨4, fun _ => rfl, fun h => absurd y h⟩
    · exact ⟨10, fun h => absurd h y, fun _ => rfl⟩
  by_cases cr : r0 = 0
  case neg =>
    refine ⟨r0, 0, fun _ => 0, 0, 0, c0, c0, fun e => absurd e cr, ?_, ?_⟩
    · intro xca xli xtt xpf xbs xbi xwe xda xpc xpr xne xsn xss xbu xst xse xpl xs xty xcl xtl xds xdl xva xnm xns xna xnp post h
      refine x_dip hi fx0 fx1 hsec (hX xca xli xtt xpf xbs xbi xwe xda xpc xpr (nI i) (nI p) xne xsn xss xbu xst xse xpl (upd xs i (nI sec)) xty xcl (vp_updL xtl i (-1)) (upd xds i (-1)) (upd xdl i (-1)) (vp_updL xva i (-1)) xnm xns (upd xna (2 * i + 1) (-1)) (upd xnp (2 * i + 1) (-1))) (fun e => absurd e cr) (fun _ xne' xnm' xns' xnp' hr => ?_)
      exact h _ _ _ _ _ _ _ _ _ _ _ _ _ (xf_mk hr cx_id (fun j hj => ⟨pk_un hj, rfl, rfl, pk_uLn hj, pk_un hj, pk_un hj⟩)) (fun e => absurd e cr)
    · intro yca yli ytt ypf ybs ybi ypr yic yne yie yde ysn yss ybu yst yse yps ypn yfa yfs ynn fo post h
      refine y_dip fx0 fx1 hsec (fun ps post e h => hY yca yli ytt ypf ybs ybi ypr yic yne yie yde ysn yss ybu yst yse yps ypn (vp_updL (f0_ yfa) 0 (nI sec).toInt64) (upd yfs 1 0) ynn fo 0 ps post (by decide) e h) (fun e => absurd e cr) (fun _ yne' yfa' fo' yfs' hr => ?_)
      exact h _ _ _ _ _ (fun e => absurd e cr)
  subst cr
  obtain ⟨hf1, hf2⟩ := hf rfl
  have hty : t2_ b en < 65536 := t2_lt hb
  have hcl : t2_ b (en + 2) < 65536 := t2_lt hb
  by_cases s0 : sec = 0
  · -- a question
    have efx := fx0 s0
    subst efx
    by_cases ce : en + 4 ≤ z
    · refine ⟨0, en + 4, fc_ (nI sec).toInt64 (lN (t2_ b en)) (lN (t2_ b (en + 2))) (-1) (-1 : Int32).toInt64 (-1 : Int32).toInt64 (-1) (nI p).toInt64 pt0.toInt64 (-1 : Int32).toInt64 (-1 : Int32).toInt64, m0, 0, c0, c0, fun _ => ⟨ce, hf1, Or.inl rfl⟩, ?_, ?_⟩
      · intro xca xli xtt xpf xbs xbi xwe xda xpc xpr xne xsn xss xbu xst xse xpl xs xty xcl xtl xds xdl xva xnm xns xna xnp post h
        refine x_dip hi fx0 fx1 hsec (hX xca xli xtt xpf xbs xbi xwe xda xpc xpr (nI i) (nI p) xne xsn xss xbu xst xse xpl (upd xs i (nI sec)) xty xcl (vp_updL xtl i (-1)) (upd xds i (-1)) (upd xdl i (-1)) (vp_updL xva i (-1)) xnm xns (upd xna (2 * i + 1) (-1)) (upd xnp (2 * i + 1) (-1))) (fun _ xne' xnm' xns' xnp' hr => ?_) (fun e => absurd rfl e)
        have e1 := (hr.2.2.2 rfl).1
        subst e1
        have hc : cx_ i (vp_updL xva i (-1)) xnm' xns' (upd (upd xna (2 * i + 1) (-1)) (2 * i) (nI p)) xnp' 0 (-1) 0 (-1) (-1) c0 (vp_updL xva i (-1)) xnm' xns' (upd (upd xna (2 * i + 1) (-1)) (2 * i) (nI p)) xnp' := cx_rf pk_uLs (by rw [pk_un (by omega), pk_us]) (by rw [hr.2.2.1 _ (by omega), pk_us])
        have K := h (nI (en + 4)) (nI en) _ _ _ _ _ _ _ _ _ _ _ (xf_mk hr hc (fun j hj => ⟨pk_un hj, pk_un hj, pk_un hj, pk_uLn hj, pk_un hj, pk_un hj⟩)) (fun _ => ⟨rfl, xi_mk2 (ty := t2_ b en) (cl := t2_ b (en + 2)) hr hf1.1 hc (Or.inl ⟨rfl, rfl⟩) (by omega) (by omega) (by omega) pk_uLs (by rw [pk_us]) (by rw [pk_us])⟩)
        rw [s0] at K ⊢
        exact x_102q hz hb hi ce K
      · intro yca yli ytt ypf ybs ybi ypr yic yne yie yde ysn yss ybu yst yse yps ypn yfa yfs ynn fo post h
        refine y_dip fx0 fx1 hsec (fun ps post e h => hY yca yli ytt ypf ybs ybi ypr yic yne yie yde ysn yss ybu yst yse yps ypn (vp_updL (f0_ yfa) 0 (nI sec).toInt64) (upd yfs 1 0) ynn fo 0 ps post (by decide) e h) (fun _ yne' yfa' fo' yfs' hr => ?_) (fun e => absurd rfl e)
        obtain ⟨q1, q2, q3, q4, q5, q6, q7, q8⟩ := yb_ hr
        subst q1
        have K := h (nI en) (nI (en + 4)) (g2_ yfa' (lN (t2_ b en)) (lN (t2_ b (en + 2)))) fo' yfs' (fun _ => ⟨rfl, fc_all q2 rfl rfl (q3 3 (by decide) (by decide) (by decide) (by decide)) ((q3 4 (by decide) (by decide) (by decide) (by decide)).trans m1_l.symm) ((q3 5 (by decide) (by decide) (by decide) (by decide)).trans m1_l.symm) (q3 6 (by decide) (by decide) (by decide) (by decide)) q4 q5 ((q3 9 (by decide) (by decide) (by decide) (by decide)).trans m1_l.symm) ((q3 10 (by decide) (by decide) (by decide) (by decide)).trans m1_l.symm), q6, q7, q8, fun j hj => absurd hj (Nat.not_lt_zero j)⟩)
        rw [s0]
        exact y_70q hz hb ce K
    · refine ⟨4, 0, fun _ => 0, 0, 0, c0, c0, fun e => absurd e (by decide), ?_, ?_⟩
      · intro xca xli xtt xpf xbs xbi xwe xda xpc xpr xne xsn xss xbu xst xse xpl xs xty xcl xtl xds xdl xva xnm xns xna xnp post h
        refine x_dip hi fx0 fx1 hsec (hX xca xli xtt xpf xbs xbi xwe xda xpc xpr (nI i) (nI p) xne xsn xss xbu xst xse xpl (upd xs i (nI sec)) xty xcl (vp_updL xtl i (-1)) (upd xds i (-1)) (upd xdl i (-1)) (vp_updL xva i (-1)) xnm xns (upd xna (2 * i + 1) (-1)) (upd xnp (2 * i + 1) (-1))) (fun _ xne' xnm' xns' xnp' hr => ?_) (fun e => absurd rfl e)
        have e1 := (hr.2.2.2 rfl).1
        subst e1
        exact br_f (by rw [na_4]; exact nI_ge (by omega) (by omega)) (h _ _ _ _ _ _ _ _ _ _ _ _ _ (xf_mk hr cx_id (fun j hj => ⟨pk_un hj, rfl, rfl, pk_uLn hj, pk_un hj, pk_un hj⟩)) (fun e => absurd e (by decide)))
      · intro yca yli ytt ypf ybs ybi ypr yic yne yie yde ysn yss ybu yst yse yps ypn yfa yfs ynn fo post h
        refine y_dip fx0 fx1 hsec (fun ps post e h => hY yca yli ytt ypf ybs ybi ypr yic yne yie yde ysn yss ybu yst yse yps ypn (vp_updL (f0_ yfa) 0 (nI sec).toInt64) (upd yfs 1 0) ynn fo 0 ps post (by decide) e h) (fun _ yne' yfa' fo' yfs' hr => ?_) (fun e => absurd rfl e)
        obtain ⟨q1, _⟩ := yb_ hr
        subst q1
        unfold wY_decodeItem_70
        exact nm_r (na_4 en) (br_f (nI_ge (by omega) (by omega)) (h _ _ _ _ _ (fun e => absurd e (by decide))))
  have efx := fx1 s0
  subst efx
  have hs : ¬ nI sec = 0 := fun e => s0 ((nI_i0 (by omega)).mp e)
  by_cases ce : en + 10 ≤ z
  case neg =>
    refine ⟨4, 0, fun _ => 0, 0, 0, c0, c0, fun e => absurd e (by decide), ?_, ?_⟩
    · intro xca xli xtt xpf xbs xbi xwe xda xpc xpr xne xsn xss xbu xst xse xpl xs xty xcl xtl xds xdl xva xnm xns xna xnp post h
      refine x_dip hi fx0 fx1 hsec (hX xca xli xtt xpf xbs xbi xwe xda xpc xpr (nI i) (nI p) xne xsn xss xbu xst xse xpl (upd xs i (nI sec)) xty xcl (vp_updL xtl i (-1)) (upd xds i (-1)) (upd xdl i (-1)) (vp_updL xva i (-1)) xnm xns (upd xna (2 * i + 1) (-1)) (upd xnp (2 * i + 1) (-1))) (fun _ xne' xnm' xns' xnp' hr => ?_) (fun e => absurd rfl e)
      have e1 := (hr.2.2.2 rfl).1
      subst e1
      exact br_f (by rw [na_10]; exact nI_ge (by omega) (by omega)) (h _ _ _ _ _ _ _ _ _ _ _ _ _ (xf_mk hr cx_id (fun j hj => ⟨pk_un hj, rfl, rfl, pk_uLn hj, pk_un hj, pk_un hj⟩)) (fun e => absurd e (by decide)))
    · intro yca yli ytt ypf ybs ybi ypr yic yne yie yde ysn yss ybu yst yse yps ypn yfa yfs ynn fo post h
      refine y_dip fx0 fx1 hsec (fun ps post e h => hY yca yli ytt ypf ybs ybi ypr yic yne yie yde ysn yss ybu yst yse yps ypn (vp_updL (f0_ yfa) 0 (nI sec).toInt64) (upd yfs 1 0) ynn fo 0 ps post (by decide) e h) (fun _ yne' yfa' fo' yfs' hr => ?_) (fun e => absurd rfl e)
      obtain ⟨q1, _⟩ := yb_ hr
      subst q1
      unfold wY_decodeItem_70
      exact nm_r (na_10 en) (br_f (nI_ge (by omega) (by omega)) (h _ _ _ _ _ (fun e => absurd e (by decide))))
  obtain ⟨dl, hdl⟩ : ∃ dl, t2_ b (en + 8) = dl := ⟨_, rfl⟩
  have hdl2 : dl < 65536 := by rw [← hdl]; exact t2_lt hb
  by_cases cd : en + 10 + dl ≤ z
  case neg =>
    refine ⟨4, 0, fun _ => 0, 0, 0, c0, c0, fun e => absurd e (by decide), ?_, ?_⟩
    · intro xca xli xtt xpf xbs xbi xwe xda xpc xpr xne xsn xss xbu xst xse xpl xs xty xcl xtl xds xdl xva xnm xns xna xnp post h
      refine x_dip hi fx0 fx1 hsec (hX xca xli xtt xpf xbs xbi xwe xda xpc xpr (nI i) (nI p) xne xsn xss xbu xst xse xpl (upd xs i (nI sec)) xty xcl (vp_updL xtl i (-1)) (upd xds i (-1)) (upd xdl i (-1)) (vp_updL xva i (-1)) xnm xns (upd xna (2 * i + 1) (-1)) (upd xnp (2 * i + 1) (-1))) (fun _ xne' xnm' xns' xnp' hr => ?_) (fun e => absurd rfl e)
      have e1 := (hr.2.2.2 rfl).1
      subst e1
      refine x_102r hz hb hi ce hs hdl (fun _ => ?_) (fun y => absurd y cd) (fun y => absurd y cd)
      exact h _ _ _ _ _ _ _ _ _ _ _ _ _ (xf_mk hr cx_id (fun j hj => ⟨pk_un hj, pk_un hj, pk_un hj, (pk_uLn hj).trans (pk_uLn hj), (pk_un hj).trans (pk_un hj), (pk_un hj).trans (pk_un hj)⟩)) (fun e => absurd e (by decide))
    · intro yca yli ytt ypf ybs ybi ypr yic yne yie yde ysn yss ybu yst yse yps ypn yfa yfs ynn fo post h
      refine y_dip fx0 fx1 hsec (fun ps post e h => hY yca yli ytt ypf ybs ybi ypr yic yne yie yde ysn yss ybu yst yse yps ypn (vp_updL (f0_ yfa) 0 (nI sec).toInt64) (upd yfs 1 0) ynn fo 0 ps post (by decide) e h) (fun _ yne' yfa' fo' yfs' hr => ?_) (fun e => absurd rfl e)
      obtain ⟨q1, _⟩ := yb_ hr
      subst q1
      exact y_70r hz hb ce hs hdl (fun _ => h _ _ _ _ _ (fun e => absurd e (by decide))) (fun y => absurd y cd) (fun y => absurd y cd)
  by_cases c1 : t2_ b (en + 2) = 1
  case neg =>
    refine ⟨0, en + 10 + dl, fc_ (nI sec).toInt64 (lN (t2_ b en)) (lN (t2_ b (en + 2))) (lN (t4_ b (en + 4))) (nI (en + 10)).toInt64 (lN dl) (-1) (nI p).toInt64 pt0.toInt64 (-1 : Int32).toInt64 (-1 : Int32).toInt64, m0, 0, c0, c0, fun _ => ⟨cd, hf1, Or.inl rfl⟩, ?_, ?_⟩
    · intro xca xli xtt xpf xbs xbi xwe xda xpc xpr xne xsn xss xbu xst xse xpl xs xty xcl xtl xds xdl xva xnm xns xna xnp post h
      refine x_dip hi fx0 fx1 hsec (hX xca xli xtt xpf xbs xbi xwe xda xpc xpr (nI i) (nI p) xne xsn xss xbu xst xse xpl (upd xs i (nI sec)) xty xcl (vp_updL xtl i (-1)) (upd xds i (-1)) (upd xdl i (-1)) (vp_updL xva i (-1)) xnm xns (upd xna (2 * i + 1) (-1)) (upd xnp (2 * i + 1) (-1))) (fun _ xne' xnm' xns' xnp' hr => ?_) (fun e => absurd rfl e)
      have e1 := (hr.2.2.2 rfl).1
      subst e1
      have hc : cx_ i (vp_updL xva i (-1)) xnm' xns' (upd (upd xna (2 * i + 1) (-1)) (2 * i) (nI p)) xnp' 0 (-1) 0 (-1) (-1) c0 (vp_updL xva i (-1)) xnm' xns' (upd (upd xna (2 * i + 1) (-1)) (2 * i) (nI p)) xnp' := cx_rf pk_uLs (by rw [pk_un (by omega), pk_us]) (by rw [hr.2.2.1 _ (by omega), pk_us])
      refine x_102r hz hb hi ce hs hdl (fun y => by omega) (fun _ _ => ?_) (fun _ y => absurd y c1)
      exact h _ _ _ _ _ _ _ _ _ _ _ _ _ (xf_mk hr hc (fun j hj => ⟨pk_un hj, pk_un hj, pk_un hj, (pk_uLn hj).trans (pk_uLn hj), (pk_un hj).trans (pk_un hj), (pk_un hj).trans (pk_un hj)⟩)) (fun _ => ⟨rfl, xi_mk2 (ty := t2_ b en) (cl := t2_ b (en + 2)) hr hf1.1 hc (Or.inl ⟨rfl, rfl⟩) (by omega) (by omega) (by omega) pk_uLs (by rw [pk_us]) (by rw [pk_us, nI_l (by omega)])⟩)
    · intro yca yli ytt ypf ybs ybi ypr yic yne yie yde ysn yss ybu yst yse yps ypn yfa yfs ynn fo post h
      refine y_dip fx0 fx1 hsec (fun ps post e h => hY yca yli ytt ypf ybs ybi ypr yic yne yie yde ysn yss ybu yst yse yps ypn (vp_updL (f0_ yfa) 0 (nI sec).toInt64) (upd yfs 1 0) ynn fo 0 ps post (by decide) e h) (fun _ yne' yfa' fo' yfs' hr => ?_) (fun e => absurd rfl e)
      obtain ⟨q1, q2, q3, q4, q5, q6, q7, q8⟩ := yb_ hr
      subst q1
      refine y_70r hz hb ce hs hdl (fun y => by omega) (fun _ _ => ?_) (fun _ y => absurd y c1)
      exact h _ _ _ _ _ (fun _ => ⟨rfl, fc_all q2 rfl rfl rfl rfl rfl (q3 6 (by decide) (by decide) (by decide) (by decide)) q4 q5 ((q3 9 (by decide) (by decide) (by decide) (by decide)).trans m1_l.symm) ((q3 10 (by decide) (by decide) (by decide) (by decide)).trans m1_l.symm), q6, q7, q8, fun j hj => absurd hj (Nat.not_lt_zero j)⟩)
  obtain ⟨r1, V, m1, s1, pt1, c1', kf, kX, kY⟩ := cd_ex (b := b) (ty := t2_ b en) (ds := en + 10) (dl := dl) hz hb hi hty cd
  by_cases cr1 : r1 = 0
  · subst cr1
    have kf' := kf rfl
    refine ⟨0, en + 10 + dl, fc_ (nI sec).toInt64 (lN (t2_ b en)) (lN (t2_ b (en + 2))) (lN (t4_ b (en + 4))) (nI (en + 10)).toInt64 (lN dl) V (nI p).toInt64 pt0.toInt64 s1.toInt64 pt1.toInt64, m0, m1, c0, c1', fun _ => ⟨cd, hf1, ?_⟩, ?_, ?_⟩
    · rcases kf' with ⟨y, _⟩ | ⟨y, _⟩
      · exact Or.inl y
      · exact Or.inr y
    · intro xca xli xtt xpf xbs xbi xwe xda xpc xpr xne xsn xss xbu xst xse xpl xs xty xcl xtl xds xdl xva xnm xns xna xnp post h
      refine x_dip hi fx0 fx1 hsec (hX xca xli xtt xpf xbs xbi xwe xda xpc xpr (nI i) (nI p) xne xsn xss xbu xst xse xpl (upd xs i (nI sec)) xty xcl (vp_updL xtl i (-1)) (upd xds i (-1)) (upd xdl i (-1)) (vp_updL xva i (-1)) xnm xns (upd xna (2 * i + 1) (-1)) (upd xnp (2 * i + 1) (-1))) (fun _ xne' xnm' xns' xnp' hr => ?_) (fun e => absurd rfl e)
      have e1 := (hr.2.2.2 rfl).1
      subst e1
      refine x_102r hz hb hi ce hs hdl (fun y => by omega) (fun _ y => absurd c1 y) (fun _ _ => ⟨0, fun _ a2 a3 a4 a5 a6 => cx_ i (vp_updL xva i (-1)) xnm' xns' (upd (upd xna (2 * i + 1) (-1)) (2 * i) (nI p)) xnp' 0 V m1 s1 pt1 c1' a2 a3 a4 a5 a6, fun post hq => ?_, fun xne2 xva2 xnm2 xns2 xna2 xnp2 hc => ⟨fun _ => ?_, fun e => absurd rfl e⟩⟩)
      · exact kX xca xli xtt xpf xbs xbi xwe xda xpc xpr (nI i) (nI (en + 10)) (nI en) xsn xss xbu xst xse xpl (upd xs i (nI sec)) (upd xty i (nI (t2_ b en))) (upd xcl i (nI (t2_ b (en + 2)))) (vp_updL (vp_updL xtl i (-1)) i (lN (t4_ b (en + 4)))) (upd (upd xds i (-1)) i (nI (en + 10))) (upd (upd xdl i (-1)) i (nI dl)) (vp_updL xva i (-1)) xnm' xns' (upd (upd xna (2 * i + 1) (-1)) (2 * i) (nI p)) xnp' post pk_us pk_us pk_us pk_uLs (by rw [pk_un (by omega), pk_us]) (by rw [hr.2.2.1 _ (by omega), pk_us]) hq
      · exact h _ _ _ _ _ _ _ _ _ _ _ _ _ (xf_mk hr hc (fun j hj => ⟨pk_un hj, pk_un hj, pk_un hj, (pk_uLn hj).trans (pk_uLn hj), (pk_un hj).trans (pk_un hj), (pk_un hj).trans (pk_un hj)⟩)) (fun _ => ⟨rfl, xi_mk2 (ty := t2_ b en) (cl := t2_ b (en + 2)) hr hf1.1 hc kf' (by omega) (by omega) (by omega) pk_uLs (by rw [pk_us]) (by rw [pk_us, nI_l (by omega)])⟩)
    · intro yca yli ytt ypf ybs ybi ypr yic yne yie yde ysn yss ybu yst yse yps ypn yfa yfs ynn fo post h
      refine y_dip fx0 fx1 hsec (fun ps post e h => hY yca yli ytt ypf ybs ybi ypr yic yne yie yde ysn yss ybu yst yse yps ypn (vp_updL (f0_ yfa) 0 (nI sec).toInt64) (upd yfs 1 0) ynn fo 0 ps post (by decide) e h) (fun _ yne' yfa' fo' yfs' hr => ?_) (fun e => absurd rfl e)
      obtain ⟨q1, q2, q3, q4, q5, q6, q7, q8⟩ := yb_ hr
      subst q1
      refine y_70r hz hb ce hs hdl (fun y => by omega) (fun _ y => absurd c1 y) (fun _ _ => ⟨0, fun _ a2 a3 a4 => cy_ (g5_ yfa' (lN (t2_ b en)) (lN (t2_ b (en + 2))) (lN (t4_ b (en + 4))) (nI (en + 10)).toInt64 (lN dl)) fo' yfs' 0 V m1 s1 pt1 c1' a2 a3 a4, fun post hq => ?_, fun yne2 yfa2 fo2 yfs2 hc => ?_⟩)
      · exact kY yca yli ytt ypf ybs ybi ypr yic (nI en) (nI (en + 10 + dl)) yde ysn yss ybu yst yse yps ypn (g5_ yfa' (lN (t2_ b en)) (lN (t2_ b (en + 2))) (lN (t4_ b (en + 4))) (nI (en + 10)).toInt64 (lN dl)) yfs' ynn fo' post (q3 6 (by decide) (by decide) (by decide) (by decide)) (q3 9 (by decide) (by decide) (by decide) (by decide)) (q3 10 (by decide) (by decide) (by decide) (by decide)) q7 hq
      · obtain ⟨y1, y2, y3, y4⟩ := hc
        obtain ⟨w1, w2, w3, w4, w5⟩ := y4 rfl
        have hm64 := hf1.1
        exact h _ _ _ _ _ (fun _ => ⟨rfl, fc_all ((y1 0 (by decide) (by decide) (by decide)).trans q2) (y1 1 (by decide) (by decide) (by decide)) (y1 2 (by decide) (by decide) (by decide)) (y1 3 (by decide) (by decide) (by decide)) (y1 4 (by decide) (by decide) (by decide)) (y1 5 (by decide) (by decide) (by decide)) w1 ((y1 7 (by decide) (by decide) (by decide)).trans q4) ((y1 8 (by decide) (by decide) (by decide)).trans q5) w2 w3, y3.trans q6, w4, fun j hj => (y2 j (by omega)).trans (q8 j hj), w5⟩)
  · refine ⟨r1, 0, fun _ => 0, 0, 0, c0, c0, fun e => absurd e cr1, ?_, ?_⟩
    · intro xca xli xtt xpf xbs xbi xwe xda xpc xpr xne xsn xss xbu xst xse xpl xs xty xcl xtl xds xdl xva xnm xns xna xnp post h
      refine x_dip hi fx0 fx1 hsec (hX xca xli xtt xpf xbs xbi xwe xda xpc xpr (nI i) (nI p) xne xsn xss xbu xst xse xpl (upd xs i (nI sec)) xty xcl (vp_updL xtl i (-1)) (upd xds i (-1)) (upd xdl i (-1)) (vp_updL xva i (-1)) xnm xns (upd xna (2 * i + 1) (-1)) (upd xnp (2 * i + 1) (-1))) (fun _ xne' xnm' xns' xnp' hr => ?_) (fun e => absurd rfl e)
      have e1 := (hr.2.2.2 rfl).1
      subst e1
      refine x_102r hz hb hi ce hs hdl (fun y => by omega) (fun _ y => absurd c1 y) (fun _ _ => ⟨r1, fun _ a2 a3 a4 a5 a6 => cx_ i (vp_updL xva i (-1)) xnm' xns' (upd (upd xna (2 * i + 1) (-1)) (2 * i) (nI p)) xnp' r1 V m1 s1 pt1 c1' a2 a3 a4 a5 a6, fun post hq => ?_, fun xne2 xva2 xnm2 xns2 xna2 xnp2 hc => ⟨fun e => absurd e cr1, fun _ => ?_⟩⟩)
      · exact kX xca xli xtt xpf xbs xbi xwe xda xpc xpr (nI i) (nI (en + 10)) (nI en) xsn xss xbu xst xse xpl (upd xs i (nI sec)) (upd xty i (nI (t2_ b en))) (upd xcl i (nI (t2_ b (en + 2)))) (vp_updL (vp_updL xtl i (-1)) i (lN (t4_ b (en + 4)))) (upd (upd xds i (-1)) i (nI (en + 10))) (upd (upd xdl i (-1)) i (nI dl)) (vp_updL xva i (-1)) xnm' xns' (upd (upd xna (2 * i + 1) (-1)) (2 * i) (nI p)) xnp' post pk_us pk_us pk_us pk_uLs (by rw [pk_un (by omega), pk_us]) (by rw [hr.2.2.1 _ (by omega), pk_us]) hq
      · exact h _ _ _ _ _ _ _ _ _ _ _ _ _ (xf_mk hr hc (fun j hj => ⟨pk_un hj, pk_un hj, pk_un hj, (pk_uLn hj).trans (pk_uLn hj), (pk_un hj).trans (pk_un hj), (pk_un hj).trans (pk_un hj)⟩)) (fun e => absurd e cr1)
    · intro yca yli ytt ypf ybs ybi ypr yic yne yie yde ysn yss ybu yst yse yps ypn yfa yfs ynn fo post h
      refine y_dip fx0 fx1 hsec (fun ps post e h => hY yca yli ytt ypf ybs ybi ypr yic yne yie yde ysn yss ybu yst yse yps ypn (vp_updL (f0_ yfa) 0 (nI sec).toInt64) (upd yfs 1 0) ynn fo 0 ps post (by decide) e h) (fun _ yne' yfa' fo' yfs' hr => ?_) (fun e => absurd rfl e)
      obtain ⟨q1, q2, q3, q4, q5, q6, q7, q8⟩ := yb_ hr
      subst q1
      refine y_70r hz hb ce hs hdl (fun y => by omega) (fun _ y => absurd c1 y) (fun _ _ => ⟨r1, fun _ a2 a3 a4 => cy_ (g5_ yfa' (lN (t2_ b en)) (lN (t2_ b (en + 2))) (lN (t4_ b (en + 4))) (nI (en + 10)).toInt64 (lN dl)) fo' yfs' r1 V m1 s1 pt1 c1' a2 a3 a4, fun post hq => ?_, fun yne2 yfa2 fo2 yfs2 hc => ?_⟩)
      · exact kY yca yli ytt ypf ybs ybi ypr yic (nI en) (nI (en + 10 + dl)) yde ysn yss ybu yst yse yps ypn (g5_ yfa' (lN (t2_ b en)) (lN (t2_ b (en + 2))) (lN (t4_ b (en + 4))) (nI (en + 10)).toInt64 (lN dl)) yfs' ynn fo' post (q3 6 (by decide) (by decide) (by decide) (by decide)) (q3 9 (by decide) (by decide) (by decide) (by decide)) (q3 10 (by decide) (by decide) (by decide) (by decide)) q7 hq
      · exact h _ _ _ _ _ (fun e => absurd e cr1)
end DI
end
section
/-! decode: section by section, item by item -/
section MSG
variable {xca xli xtt xpf xbs xbi xwe xda xpc xis xpr xic xrp xne : Int32} {xsn xss xbu xst xse xpl xin xs xty xcl : Nat → Int32} {xtl : Nat → Int64} {xds xdl : Nat → Int32} {xva : Nat → Int64} {xnm xns xna xnp : Nat → Int32}
variable {yca yli ytt ypf ybs ybi yis ypr yic yne yie yde : Int32} {ysn yss ybu yst yse yps ypn yin : Nat → Int32} {yfa : Nat → Int64} {yfo yfs : Nat → Int32} {ynn : Nat}
variable {b fo c c0 c1 : Nat → Nat} {F : Nat → Int64} {z lim s i p k m0 m1 p' : Nat}
/-- whatever Y asks from here on (in a section), it asks at the start -/
def sc88 (b : Nat → Nat) (z lim s i p k : Nat) : Prop :=
  ∀ (last : Nat) (yca ytt ypf ybs ybi ypr yic yne yie yde : Int32) (ysn yss ybu yst yse yps ypn : Nat → Int32) (yfa : Nat → Int64) (yfs : Nat → Int32) (ynn : Nat) (fo : Nat → Nat) (post : Int32 → SY → Prop), k ≤ last → last ≤ 255 →
    (∀ (yne yie : Int32) (yfa : Nat → Int64) (fo : Nat → Nat) (yfs : Nat → Int32), wY_decode_88 post (wY_decode_66 post (nI last) (4 - s)) (nI last) (nI s) (lN (t2_ b (4 + 2 * s))) (t2_ b (4 + 2 * s) - i + 1) (nI p) (nI i) yca (nI lim) ytt ypf ybs ybi (nI z) ypr yic yne yie (nI k) ysn yss ybu yst yse yps ypn (ar_I b) yfa (ar_I fo) yfs ynn) → wpY_decode post (yca, nI lim, ytt, ypf, ybs, ybi, nI z, ypr, yic, yne, yie, yde, ysn, yss, ybu, yst, yse, yps, ypn, ar_I b, yfa, ar_I fo, yfs, ynn) (nI last)
/-- the same at the head of a section -/
def sc66 (b : Nat → Nat) (z lim s p k : Nat) : Prop :=
  ∀ (last : Nat) (yca ytt ypf ybs ybi ypr yic yne yie yde : Int32) (ysn yss ybu yst yse yps ypn : Nat → Int32) (yfa : Nat → Int64) (yfs : Nat → Int32) (ynn : Nat) (fo : Nat → Nat) (post : Int32 → SY → Prop), k ≤ last → last ≤ 255 →
    (∀ (yne yie : Int32) (yfa : Nat → Int64) (fo : Nat → Nat) (yfs : Nat → Int32), wY_decode_66 post (nI last) (5 - s) (nI p) (nI s) yca (nI lim) ytt ypf ybs ybi (nI z) ypr yic yne yie (nI k) ysn yss ybu yst yse yps ypn (ar_I b) yfa (ar_I fo) yfs ynn) → wpY_decode post (yca, nI lim, ytt, ypf, ybs, ybi, nI z, ypr, yic, yne, yie, yde, ysn, yss, ybu, yst, yse, yps, ypn, ar_I b, yfa, ar_I fo, yfs, ynn) (nI last)
def dY_ (b : Nat → Nat) (z p sec : Nat) (r : Int32) (p' : Nat) (F : Nat → Int64) (m0 m1 : Nat) (c0 c1 : Nat → Nat) : Prop :=
  ∀ (yca yli ytt ypf ybs ybi ypr yic yne yie yde : Int32) (ysn yss ybu yst yse yps ypn : Nat → Int32) (yfa : Nat → Int64) (yfs : Nat → Int32) (ynn : Nat) (fo : Nat → Nat) (post : Int32 → SY → Prop), (∀ (yne' yie' : Int32) (yfa' : Nat → Int64) (fo' : Nat → Nat) (yfs' : Nat → Int32), dy_ r p' F m0 m1 c0 c1 yie' yfa' fo' yfs' → post r (yca, yli, ytt, ypf, ybs, ybi, nI z, ypr, yic, yne', yie', yde, ysn, yss, ybu, yst, yse, yps, ypn, ar_I b, yfa', ar_I fo', yfs', ynn)) → wpY_decodeItem post (yca, yli, ytt, ypf, ybs, ybi, nI z, ypr, yic, yne, yie, yde, ysn, yss, ybu, yst, yse, yps, ypn, ar_I b, yfa, ar_I fo, yfs, ynn) (nI p) (nI sec)
theorem e4_ (s : Nat) : 4 + 2 * nI s = nI (4 + 2 * s) := by rw [ix_2]; exact nI_add 4 _
theorem sc_68 (hz : z ≤ 255) (h12 : 12 ≤ z) (hb : ∀ j, b j < 256) (hs : s < 4) (h : sc66 b z lim s p k) : sc88 b z lim s 0 p k := by
  intro last yca ytt ypf ybs ybi ypr yic yne yie yde ysn yss ybu yst yse yps ypn yfa yfs ynn fo post h1 h2 hp
  refine h last yca ytt ypf ybs ybi ypr yic yne yie yde ysn yss ybu yst yse yps ypn yfa yfs ynn fo post h1 h2 ?_
  intro yne yie yfa fo yfs
  have K := hp yne yie yfa fo yfs
  rw [Nat.sub_zero] at K
  rw [show 5 - s = (4 - s) + 1 by omega]
  refine br_f (nI_ge (b := 4) (by omega) (by decide)) ?_
  exact y_two (e4_ s) (by omega) hb ⟨_, K⟩
theorem sc_86 (hb : ∀ j, b j < 256) (h : sc88 b z lim s (t2_ b (4 + 2 * s)) p k) : sc66 b z lim (s + 1) p k := by
  intro last yca ytt ypf ybs ybi ypr yic yne yie yde ysn yss ybu yst yse yps ypn yfa yfs ynn fo post h1 h2 hp
  refine h last yca ytt ypf ybs ybi ypr yic yne yie yde ysn yss ybu yst yse yps ypn yfa yfs ynn fo post h1 h2 ?_
  intro yne yie yfa fo yfs
  have K := hp yne yie yfa fo yfs
  rw [show 5 - (s + 1) = 4 - s by omega] at K
  have hn : t2_ b (4 + 2 * s) < 65536 := t2_lt hb
  rw [Nat.sub_self]
  exact br_t (by rw [nI_l (by omega)]; exact (lN_le (by omega) (by omega)).mpr (Nat.le_refl _)) (nm_r (nI_1 s) K)
theorem sc_it (hb : ∀ j, b j < 256) (hi : i < t2_ b (4 + 2 * s)) (hk : k < 16) (hd : dY_ b z p s 0 p' F m0 m1 c0 c1) (h : sc88 b z lim s i p k) : sc88 b z lim s (i + 1) p' (k + 1) := by
  intro last yca ytt ypf ybs ybi ypr yic yne yie yde ysn yss ybu yst yse yps ypn yfa yfs ynn fo post h1 h2 hp
  refine h last yca ytt ypf ybs ybi ypr yic yne yie yde ysn yss ybu yst yse yps ypn yfa yfs ynn fo post (by omega) h2 ?_
  intro yne yie yfa fo yfs
  have hn : t2_ b (4 + 2 * s) < 65536 := t2_lt hb
  rw [show t2_ b (4 + 2 * s) - i + 1 = (t2_ b (4 + 2 * s) - (i + 1) + 1) + 1 by omega]
  refine br_f (by rw [nI_l (by omega), lN_le (by omega) (by omega)]; omega) ?_
  refine hd yca (nI lim) ytt ypf ybs ybi ypr yic yne yie (nI k) ysn yss ybu yst yse yps ypn yfa yfs ynn fo _ (fun yne' yie' yfa' fo' yfs' hy => br_t rfl (nm_r (nI_1 k) (br_f (by rw [nI_1]; exact ne_l (by omega) (by omega) (by omega)) (nm_r (nI_1 i) ?_))))
  have e := (hy rfl).1
  subst e
  exact hp yne' (nI p') yfa' fo' yfs'
theorem sc_yd (hb : ∀ j, b j < 256) (hi : i < t2_ b (4 + 2 * s)) (hk : k < 16) (hd : dY_ b z p s 0 p' F m0 m1 c0 c1) (h : sc88 b z lim s i p k) : yd_ b z lim k F m0 m1 c0 c1 := by
  intro yca ytt ypf ybs ybi ypr yic yne yie yde ysn yss ybu yst yse yps ypn yfa yfs ynn fo post hp
  refine h k yca ytt ypf ybs ybi ypr yic yne yie yde ysn yss ybu yst yse yps ypn yfa yfs ynn fo post (Nat.le_refl _) (by omega) ?_
  intro yne yie yfa fo yfs
  have hn : t2_ b (4 + 2 * s) < 65536 := t2_lt hb
  refine br_f (by rw [nI_l (by omega), lN_le (by omega) (by omega)]; omega) ?_
  refine hd yca (nI lim) ytt ypf ybs ybi ypr yic yne yie (nI k) ysn yss ybu yst yse yps ypn yfa yfs ynn fo _ (fun yne' yie' yfa' fo' yfs' hy => br_t rfl (nm_r (nI_1 k) (br_t (nI_1 k).symm ?_)))
  obtain ⟨q1, q2, q3, q4, q5, q6⟩ := hy rfl
  exact hp yne' yie' (nI (k + 1)) yfa' fo' yfs' q2 q3 q4 q5 q6
/-- Y's decode of the whole ends so -/
def ye_ (b : Nat → Nat) (z lim : Nat) (r : Int32) (k : Nat) : Prop :=
  ∀ (yca ytt ypf ybs ybi ypr yic yne yie yde : Int32) (ysn yss ybu yst yse yps ypn : Nat → Int32) (yfa : Nat → Int64) (yfs : Nat → Int32) (ynn : Nat) (fo : Nat → Nat) (post : Int32 → SY → Prop), (∀ (yne yie : Int32) (yfa : Nat → Int64) (fo : Nat → Nat) (yfs : Nat → Int32), post r (yca, nI lim, ytt, ypf, ybs, ybi, nI z, ypr, yic, yne, yie, nI k, ysn, yss, ybu, yst, yse, yps, ypn, ar_I b, yfa, ar_I fo, yfs, ynn)) → wpY_decode post (yca, nI lim, ytt, ypf, ybs, ybi, nI z, ypr, yic, yne, yie, yde, ysn, yss, ybu, yst, yse, yps, ypn, ar_I b, yfa, ar_I fo, yfs, ynn) (nI 255)
theorem sc_no {r : Int32} (hb : ∀ j, b j < 256) (hi : i < t2_ b (4 + 2 * s)) (hk : k < 16) (hr : ¬ r = 0) (hd : dY_ b z p s r p' F m0 m1 c0 c1) (h : sc88 b z lim s i p k) : ye_ b z lim r k := by
  intro yca ytt ypf ybs ybi ypr yic yne yie yde ysn yss ybu yst yse yps ypn yfa yfs ynn fo post hp
  refine h 255 yca ytt ypf ybs ybi ypr yic yne yie yde ysn yss ybu yst yse yps ypn yfa yfs ynn fo post (by omega) (by omega) ?_
  intro yne yie yfa fo yfs
  have hn : t2_ b (4 + 2 * s) < 65536 := t2_lt hb
  refine br_f (by rw [nI_l (by omega), lN_le (by omega) (by omega)]; omega) ?_
  exact hd yca (nI lim) ytt ypf ybs ybi ypr yic yne yie (nI k) ysn yss ybu yst yse yps ypn yfa yfs ynn fo _ (fun yne' yie' yfa' fo' yfs' hy => br_f hr (hp yne' yie' yfa' fo' yfs'))
theorem sc_e1 (hz : z ≤ 255) (hk : k ≤ 16) (hp : z ≤ p) (hp2 : p ≤ 255) (h : sc66 b z lim 4 p k) : ye_ b z lim 1 k := by
  intro yca ytt ypf ybs ybi ypr yic yne yie yde ysn yss ybu yst yse yps ypn yfa yfs ynn fo post hp
  refine h 255 yca ytt ypf ybs ybi ypr yic yne yie yde ysn yss ybu yst yse yps ypn yfa yfs ynn fo post (by omega) (by omega) ?_
  intro yne yie yfa fo yfs
  exact br_t (by decide) (br_t (nI_le (by omega) (by omega)) (hp yne yie yfa fo yfs))
theorem sc_e9 (hz : z ≤ 255) (hk : k ≤ 16) (hp : p < z) (h : sc66 b z lim 4 p k) : ye_ b z lim 9 k := by
  intro yca ytt ypf ybs ybi ypr yic yne yie yde ysn yss ybu yst yse yps ypn yfa yfs ynn fo post hp
  refine h 255 yca ytt ypf ybs ybi ypr yic yne yie yde ysn yss ybu yst yse yps ypn yfa yfs ynn fo post (by omega) (by omega) ?_
  intro yne yie yfa fo yfs
  exact br_t (by decide) (br_f (nI_ge (by omega) (by omega)) (hp yne yie yfa fo yfs))
/-! the counts -/
def rs_ (b : Nat → Nat) : Nat → Nat
  | 0 => 0
  | d + 1 => t2_ b (4 + 2 * (3 - d)) + rs_ b d
theorem rs_4 : rs_ b 4 = t2_ b 4 + (t2_ b 6 + (t2_ b 8 + (t2_ b 10 + 0))) := rfl
theorem y_21 {post : Int32 → SY → Prop} {x1 : Int32} (hz : z ≤ 255) (h12 : 12 ≤ z) (hb : ∀ j, b j < 256) (hlim : lim ≤ 16)
    (h0 : rs_ b 4 ≤ lim → ∃ n, wY_decode_66 post x1 n 12 0 yca (nI lim) ytt ypf ybs ybi (nI z) ypr yic yne yie yde ysn yss ybu yst yse yps ypn (ar_I b) yfa yfo yfs ynn) (h3 : lim < rs_ b 4 → post 3 (yca, nI lim, ytt, ypf, ybs, ybi, nI z, ypr, yic, yne, yie, yde, ysn, yss, ybu, yst, yse, yps, ypn, ar_I b, yfa, yfo, yfs, ynn)) :
    ∃ n, wY_decode_21 post x1 yca (nI lim) ytt ypf ybs ybi (nI z) ypr yic yne yie yde ysn yss ybu yst yse yps ypn (ar_I b) yfa yfo yfs ynn n 0 0 := by
  have n0 : t2_ b 4 < 65536 := t2_lt hb
  have n1 : t2_ b 6 < 65536 := t2_lt hb
  have n2 : t2_ b 8 < 65536 := t2_lt hb
  have n3 : t2_ b 10 < 65536 := t2_lt hb
  have e4 := rs_4 (b := b)
  refine ⟨5, br_f (by decide) ?_⟩
  refine y_two (a := 4) (by decide) (by omega) hb (nm_r (e' := lN (t2_ b 4)) (Int64.zero_add _) (nm_r (e' := 1) (by decide) (br_f (by decide) ?_)))
  refine y_two (a := 6) (by decide) (by omega) hb (nm_r (lN_add _ _) (nm_r (e' := 2) (by decide) (br_f (by decide) ?_)))
  refine y_two (a := 8) (by decide) (by omega) hb (nm_r (lN_add _ _) (nm_r (e' := 3) (by decide) (br_f (by decide) ?_)))
  refine y_two (a := 10) (by decide) (by omega) hb (nm_r (lN_add _ _) (nm_r (e' := 4) (by decide) (br_t (by decide) ?_)))
  rw [nI_l (by omega)]
  by_cases y : rs_ b 4 ≤ lim
  · exact br_t ((lN_le (by omega) (by omega)).mpr (by omega)) (h0 y)
  · exact br_f (by rw [lN_le (by omega) (by omega)]; omega) (h3 (by omega))
theorem x_15 {post : Int32 → SX → Prop} (hz : z ≤ 255) (h12 : 12 ≤ z) (hb : ∀ j, b j < 256) (hlim : lim ≤ 16)
    (h0 : rs_ b 4 ≤ lim → ∃ n, wX_decodeMessage_56 post n 0 xca (nI lim) xtt xpf xbs xbi xwe xda xpc (nI z) xpr xic 12 xne xsn xss xbu xst xse xpl (ar_I b) xs xty xcl xtl xds xdl xva xnm xns xna xnp) (h3 : lim < rs_ b 4 → post 3 (xca, nI lim, xtt, xpf, xbs, xbi, xwe, xda, xpc, nI z, xpr, xic, xrp, xne, xsn, xss, xbu, xst, xse, xpl, ar_I b, xs, xty, xcl, xtl, xds, xdl, xva, xnm, xns, xna, xnp)) :
    ∃ n, wX_decodeMessage_15 post xca (nI lim) xtt xpf xbs xbi xwe xda xpc (nI z) xpr xic xrp xne xsn xss xbu xst xse xpl (ar_I b) xs xty xcl xtl xds xdl xva xnm xns xna xnp n 0 0 := by
  have n0 : t2_ b 4 < 65536 := t2_lt hb
  have n1 : t2_ b 6 < 65536 := t2_lt hb
  have n2 : t2_ b 8 < 65536 := t2_lt hb
  have n3 : t2_ b 10 < 65536 := t2_lt hb
  have e4 := rs_4 (b := b)
  refine ⟨5, br_f (by decide) ?_⟩
  refine x_two (a := 4) (by decide) (by omega) hb (nm_r (e' := nI (t2_ b 4)) (Int32.zero_add _) (nm_r (e' := 1) (by decide) (br_f (by decide) ?_)))
  refine x_two (a := 6) (by decide) (by omega) hb (nm_r (nI_add _ _) (nm_r (e' := 2) (by decide) (br_f (by decide) ?_)))
  refine x_two (a := 8) (by decide) (by omega) hb (nm_r (nI_add _ _) (nm_r (e' := 3) (by decide) (br_f (by decide) ?_)))
  refine x_two (a := 10) (by decide) (by omega) hb (nm_r (nI_add _ _) (nm_r (e' := 4) (by decide) (br_t (by decide) ?_)))
  by_cases y : rs_ b 4 ≤ lim
  · exact br_t (nI_le (by omega) (by omega)) (h0 y)
  · exact br_f (nI_ge (by omega) (by omega)) (h3 (by omega))
theorem sc_st (hz : z ≤ 255) (h12 : 12 ≤ z) (hb : ∀ j, b j < 256) (hlim : lim ≤ 16) (hr : rs_ b 4 ≤ lim) : sc66 b z lim 0 12 0 := by
  intro last yca ytt ypf ybs ybi ypr yic yne yie yde ysn yss ybu yst yse yps ypn yfa yfs ynn fo post h1 h2 hp
  exact br_t (nI_le (a := 12) h12 (by omega)) (y_21 hz h12 hb hlim (fun _ => ⟨5, hp yne yie yfa fo yfs⟩) (fun y => by omega))
theorem ye_2 (hz : z < 12) : ye_ b z lim 2 0 := by
  intro yca ytt ypf ybs ybi ypr yic yne yie yde ysn yss ybu yst yse yps ypn yfa yfs ynn fo post hp
  exact br_f (nI_ge (b := 12) hz (by decide)) (hp yne yie yfa fo yfs)
theorem ye_3 (hz : z ≤ 255) (h12 : 12 ≤ z) (hb : ∀ j, b j < 256) (hlim : lim ≤ 16) (hr : lim < rs_ b 4) : ye_ b z lim 3 0 := by
  intro yca ytt ypf ybs ybi ypr yic yne yie yde ysn yss ybu yst yse yps ypn yfa yfs ynn fo post hp
  exact br_t (nI_le (a := 12) h12 (by omega)) (y_21 hz h12 hb hlim (fun y => by omega) (fun _ => hp yne yie yfa fo yfs))
/-! X's items under a frame -/
theorem xi_fr {xs' xty' xcl' : Nat → Int32} {xtl' : Nat → Int64} {xds' xdl' : Nat → Int32} {xva' : Nat → Int64} {xnm' xns' xna' xnp' : Nat → Int32} (hf : xf_ k xs xty xcl xtl xds xdl xva xnm xns xna xnp xs' xty' xcl' xtl' xds' xdl' xva' xnm' xns' xna' xnp') (hi : i ≠ k) (hm0 : m0 ≤ 64) (hm1 : m1 ≤ 64) (h : xi_ i xs xty xcl xtl xds xdl xva xnm xns xna xnp F m0 m1 c0 c1) : xi_ i xs' xty' xcl' xtl' xds' xdl' xva' xnm' xns' xna' xnp' F m0 m1 c0 c1 := by
  obtain ⟨f1, f2, f3⟩ := hf
  obtain ⟨a1, a2, a3, a4, a5, a6, a7⟩ := f1 i hi
  obtain ⟨b1, b2, b3⟩ := f3 (2 * i) (by omega) (by omega)
  obtain ⟨d1, d2, d3⟩ := f3 (2 * i + 1) (by omega) (by omega)
  obtain ⟨⟨g0, g1, g2, g3, g4, g5, g6, g7, g8, g9, g10⟩, ⟨k1, k2, k3⟩, k4⟩ := h
  unfold xi_
  rw [a1, a2, a3, a4, a5, a6, a7, b1, b2, b3, d1, d2, d3]
  refine ⟨⟨g0, g1, g2, g3, g4, g5, g6, g7, g8, g9, g10⟩, ⟨k1, fun j hj => by rw [f2 _ (by omega)]; exact k2 j hj, k3⟩, ?_⟩
  rcases k4 with y | ⟨y1, y2, y3, y4⟩
  · exact Or.inl y
  · exact Or.inr ⟨y1, y2, y3, fun j hj => by rw [f2 _ (by omega)]; exact y4 j hj⟩
theorem it_s {xs' xty' xcl' : Nat → Int32} {xtl' : Nat → Int64} {xds' xdl' : Nat → Int32} {xva' : Nat → Int64} {xnm' xns' xna' xnp' : Nat → Int32} (hf : xf_ k xs xty xcl xtl xds xdl xva xnm xns xna xnp xs' xty' xcl' xtl' xds' xdl' xva' xnm' xns' xna' xnp') (h : it_ b z lim k xs xty xcl xtl xds xdl xva xnm xns xna xnp) : it_ b z lim k xs' xty' xcl' xtl' xds' xdl' xva' xnm' xns' xna' xnp' := by
  intro i hi
  obtain ⟨F, m0, m1, c0, c1, h1, h2, h3, h4⟩ := h i hi
  refine ⟨F, m0, m1, c0, c1, h1, h2, xi_fr hf (by omega) h1.1 ?_ h3, h4⟩
  rcases h2 with y | y
  · omega
  · exact y.1
/-! X's loops, Y's carried -/
theorem x_74 {postX : Int32 → SX → Prop} {J : Int32 → Int32 → Int32 → Int32 → Int32 → Int32 → Int32 → Int32 → Int32 → Int32 → Int32 → Int32 → Int32 → Int32 → Int32 → (Nat → Int32) → (Nat → Int32) → (Nat → Int32) → (Nat → Int32) → (Nat → Int32) → (Nat → Int32) → (Nat → Int32) → (Nat → Int32) → (Nat → Int32) → (Nat → Int32) → (Nat → Int64) → (Nat → Int32) → (Nat → Int32) → (Nat → Int64) → (Nat → Int32) → (Nat → Int32) → (Nat → Int32) → (Nat → Int32) → Prop} {R : Nat}
    (hz : z ≤ 255) (hb : ∀ j, b j < 256) (hs : s < 4)
    (hE : ∀ (r : Int32) (k : Nat) (xrp xne : Int32) (xs xty xcl : Nat → Int32) (xtl : Nat → Int64) (xds xdl : Nat → Int32) (xva : Nat → Int64) (xnm xns xna xnp : Nat → Int32), k ≤ 16 → it_ b z lim k xs xty xcl xtl xds xdl xva xnm xns xna xnp → ye_ b z lim r k → postX r (xca, nI lim, xtt, xpf, xbs, xbi, xwe, xda, xpc, nI z, xpr, nI k, xrp, xne, xsn, xss, xbu, xst, xse, xpl, ar_I b, xs, xty, xcl, xtl, xds, xdl, xva, xnm, xns, xna, xnp))
    (hJ : ∀ (p k : Nat) (xne : Int32) (xs xty xcl : Nat → Int32) (xtl : Nat → Int64) (xds xdl : Nat → Int32) (xva : Nat → Int64) (xnm xns xna xnp : Nat → Int32), p ≤ z → k + R ≤ 16 → it_ b z lim k xs xty xcl xtl xds xdl xva xnm xns xna xnp → sc66 b z lim (s + 1) p k → J (nI (s + 1)) xca (nI lim) xtt xpf xbs xbi xwe xda xpc (nI z) xpr (nI k) (nI p) xne xsn xss xbu xst xse xpl (ar_I b) xs xty xcl xtl xds xdl xva xnm xns xna xnp) :
    ∀ (d i p k : Nat) (xne : Int32) (xs xty xcl : Nat → Int32) (xtl : Nat → Int64) (xds xdl : Nat → Int32) (xva : Nat → Int64) (xnm xns xna xnp : Nat → Int32), i + d = t2_ b (4 + 2 * s) → p ≤ z → k + d + R ≤ 16 → it_ b z lim k xs xty xcl xtl xds xdl xva xnm xns xna xnp → sc88 b z lim s i p k →
      wX_decodeMessage_74 postX J (nI s) (nI (t2_ b (4 + 2 * s))) (d + 1) (nI i) xca (nI lim) xtt xpf xbs xbi xwe xda xpc (nI z) xpr (nI k) (nI p) xne xsn xss xbu xst xse xpl (ar_I b) xs xty xcl xtl xds xdl xva xnm xns xna xnp := by
  have hn : t2_ b (4 + 2 * s) < 65536 := t2_lt hb
  intro d
  induction d with
  | zero =>
    intro i p k xne xs xty xcl xtl xds xdl xva xnm xns xna xnp h1 h2 h3 h4 h5
    have e : i = t2_ b (4 + 2 * s) := by omega
    subst e
    exact br_t (nI_le (Nat.le_refl _) (by omega)) (nm_r (nI_1 s) (hJ p k xne xs xty xcl xtl xds xdl xva xnm xns xna xnp h2 (by omega) h4 (sc_86 hb h5)))
  | succ d ih =>
    intro i p k xne xs xty xcl xtl xds xdl xva xnm xns xna xnp h1 h2 h3 h4 h5
    obtain ⟨r, p', F, m0, m1, c0, c1, hf, hX, hY⟩ := di_ex (b := b) (i := k) (p := p) (sec := s) hz hb (by omega) h2 hs
    refine br_f (nI_ge (by omega) (by omega)) ?_
    refine hX xca (nI lim) xtt xpf xbs xbi xwe xda xpc xpr xne xsn xss xbu xst xse xpl xs xty xcl xtl xds xdl xva xnm xns xna xnp _ (fun xrp' xne' xs' xty' xcl' xtl' xds' xdl' xva' xnm' xns' xna' xnp' q1 q2 => br_c (fun e => nm_r (nI_1 k) (nm_r (nI_1 i) ?_)) (fun e => ?_))
    · subst e
      obtain ⟨f1, f2, f3⟩ := hf rfl
      obtain ⟨g1, g2⟩ := q2 rfl
      subst g1
      refine ih (i + 1) p' (k + 1) xne' xs' xty' xcl' xtl' xds' xdl' xva' xnm' xns' xna' xnp' (by omega) f1 (by omega) (fun i' hi' => ?_) (sc_it hb (by omega) (by omega) hY h5)
      by_cases y : i' = k
      · subst y
        exact ⟨F, m0, m1, c0, c1, f2, f3, g2, sc_yd hb (by omega) (by omega) hY h5⟩
      · exact it_s q1 h4 i' (by omega)
    · exact hE r k xrp' xne' xs' xty' xcl' xtl' xds' xdl' xva' xnm' xns' xna' xnp' (by omega) (it_s q1 h4) (sc_no hb (by omega) (by omega) e hY h5)
theorem x_56 {postX : Int32 → SX → Prop} (hz : z ≤ 255) (h12 : 12 ≤ z) (hb : ∀ j, b j < 256)
    (hE : ∀ (r : Int32) (k : Nat) (xrp xne : Int32) (xs xty xcl : Nat → Int32) (xtl : Nat → Int64) (xds xdl : Nat → Int32) (xva : Nat → Int64) (xnm xns xna xnp : Nat → Int32), k ≤ 16 → it_ b z lim k xs xty xcl xtl xds xdl xva xnm xns xna xnp → ye_ b z lim r k → postX r (xca, nI lim, xtt, xpf, xbs, xbi, xwe, xda, xpc, nI z, xpr, nI k, xrp, xne, xsn, xss, xbu, xst, xse, xpl, ar_I b, xs, xty, xcl, xtl, xds, xdl, xva, xnm, xns, xna, xnp)) :
    ∀ (d s p k : Nat) (xne : Int32) (xs xty xcl : Nat → Int32) (xtl : Nat → Int64) (xds xdl : Nat → Int32) (xva : Nat → Int64) (xnm xns xna xnp : Nat → Int32), s + d = 4 → p ≤ z → k + rs_ b d ≤ 16 → it_ b z lim k xs xty xcl xtl xds xdl xva xnm xns xna xnp → sc66 b z lim s p k →
      wX_decodeMessage_56 postX (d + 1) (nI s) xca (nI lim) xtt xpf xbs xbi xwe xda xpc (nI z) xpr (nI k) (nI p) xne xsn xss xbu xst xse xpl (ar_I b) xs xty xcl xtl xds xdl xva xnm xns xna xnp := by
  intro d
  induction d with
  | zero =>
    intro s p k xne xs xty xcl xtl xds xdl xva xnm xns xna xnp h1 h2 h3 h4 h5
    have e : s = 4 := by omega
    subst e
    by_cases y : z ≤ p
    · exact br_t (by decide) (br_t (nI_le y (by omega)) (hE 1 k _ xne xs xty xcl xtl xds xdl xva xnm xns xna xnp (by omega) h4 (sc_e1 hz (by omega) y (by omega) h5)))
    · exact br_t (by decide) (br_f (nI_ge (by omega) (by omega)) (hE 9 k _ xne xs xty xcl xtl xds xdl xva xnm xns xna xnp (by omega) h4 (sc_e9 hz (by omega) (by omega) h5)))
  | succ d ih =>
    intro s p k xne xs xty xcl xtl xds xdl xva xnm xns xna xnp h1 h2 h3 h4 h5
    have e3 : 3 - d = s := by omega
    have e4 : rs_ b (d + 1) = t2_ b (4 + 2 * s) + rs_ b d := by rw [← e3]; rfl
    refine br_f (nI_ge (b := 4) (by omega) (by decide)) ?_
    refine x_two (e4_ s) (by omega) hb ⟨_, x_74 (R := rs_ b d) hz hb (by omega) hE (fun p k xne xs xty xcl xtl xds xdl xva xnm xns xna xnp g1 g2 g3 g4 => ?_) (t2_ b (4 + 2 * s)) 0 p k xne xs xty xcl xtl xds xdl xva xnm xns xna xnp (by omega) h2 (by omega) h4 (sc_68 hz h12 hb (by omega) h5)⟩
    exact ih (s + 1) p k xne xs xty xcl xtl xds xdl xva xnm xns xna xnp (by omega) g1 g2 g3 g4
theorem i_vc_parse {k : Nat} {u : SX} {v : SY} (I : i_Rel k u v) (hk : k + 5 ≤ 2562) : wpX_parse (fun r u' => wpY_parse (fun r' v' => r' = r ∧ i_Rel (k + 5) u' v') v) u := by
  refine I (fun u v => wpX_parse (fun r u' => wpY_parse (fun r' v' => r' = r ∧ i_Rel (k + 5) u' v') v) u) ?_
  intro cap lim bs bi pc z ic xtt xpf xwe xda xpr xrp xne yne yie yde A D sz B C st se PS PN P b fo xs xty xcl xds xdl xnm xns xna xnp yfs xtl xva yfa hsl hbl hin hit
  have hl16 : lim ≤ 16 := hbl.2.2.2.1
  have hz := hin.1
  have hb := hin.2.1
  -- what both leave
  have hE : ∀ (r : Int32) (k' : Nat) (xrp xne : Int32) (xs xty xcl : Nat → Int32) (xtl : Nat → Int64) (xds xdl : Nat → Int32) (xva : Nat → Int64) (xnm xns xna xnp : Nat → Int32), k' ≤ 16 → it_ b z lim k' xs xty xcl xtl xds xdl xva xnm xns xna xnp → ye_ b z lim r k' → wpY_parse (fun r' v' => r' = r ∧ i_Rel (k + 5) (nI cap, nI lim, xtt, xpf, nI bs, nI bi, xwe, xda, nI pc, nI z, r, nI k', xrp, xne, ar_I A, ar_I sz, ar_I B, ar_I st, ar_I se, ar_I P, ar_I b, xs, xty, xcl, xtl, xds, xdl, xva, xnm, xns, xna, xnp) v') (nI cap, nI lim, xtt, xpf, nI bs, nI bi, nI z, xpr, nI ic, yne, yie, yde, ar_I D, ar_I sz, ar_I C, ar_I st, ar_I se, ar_I PS, ar_I PN, ar_I b, yfa, ar_I fo, yfs, 32768) := by
    intro r k' xrp xne xs xty xcl xtl xds xdl xva xnm xns xna xnp g1 g2 g3
    unfold wpY_parse
    exact g3 (nI cap) xtt xpf (nI bs) (nI bi) xpr (nI ic) yne yie yde (ar_I D) (ar_I sz) (ar_I C) (ar_I st) (ar_I se) (ar_I PS) (ar_I PN) yfa yfs 32768 fo _ (fun yne yie yfa fo yfs => ⟨rfl, rl_mk hsl hbl ⟨hz, hb, g1⟩ g2⟩)
  unfold wpX_parse
  by_cases h12 : 12 ≤ z
  · refine br_t (nI_le (a := 12) h12 (by omega)) (x_15 hz h12 hb hl16 (fun y => ⟨5, ?_⟩) (fun y => hE 3 0 xrp xne xs xty xcl xtl xds xdl xva xnm xns xna xnp (by omega) it_0 (ye_3 hz h12 hb hl16 y)))
    exact x_56 hz h12 hb hE 4 0 12 0 xne xs xty xcl xtl xds xdl xva xnm xns xna xnp rfl h12 (by omega) it_0 (sc_st hz h12 hb hl16 y)
  · exact br_f (nI_ge (b := 12) (by omega) (by decide)) (hE 2 0 xrp xne xs xty xcl xtl xds xdl xva xnm xns xna xnp (by omega) it_0 (ye_2 (by omega)))
end MSG
end
section
/-! itemField; the number of a name -/
section FIELD
variable {xca xli xtt xpf xbs xbi xwe xda xpc xis xpr xic xrp xne : Int32} {xsn xss xbu xst xse xpl xin xs xty xcl : Nat → Int32} {xtl : Nat → Int64} {xds xdl : Nat → Int32} {xva : Nat → Int64} {xnm xns xna xnp : Nat → Int32}
variable {yca yli ytt ypf ybs ybi yis ypr yic yne yie yde : Int32} {ysn yss ybu yst yse yps ypn yin : Nat → Int32} {yfa : Nat → Int64} {yfo yfs : Nat → Int32} {ynn : Nat}
variable {A D sz B C st se PS PN P b fo c c0 c1 : Nat → Nat} {F : Nat → Int64} {cap lim bs bi pc z ic : Nat}
theorem le_n {x : Int32} {n : Nat} (h : nI (n + 1) ≤ x) (hn : n + 1 < 2 ^ 31) : nI n < x ∧ ¬ x ≤ nI n := by
  rw [Int32.le_iff_toInt_le, nI_toInt hn] at h
  constructor
  · rw [Int32.lt_iff_toInt_lt, nI_toInt (by omega)]; omega
  · rw [Int32.le_iff_toInt_le, nI_toInt (by omega)]; omega
theorem i_vc_itemField {k : Nat} {u : SX} {v : SY} (I : i_Rel k u v) (hk : k + 5 ≤ 2562) (v1 : Int32) (v2 : Int32) : wpX_itemField (fun r => wpY_itemField (fun r' v' => r' = r ∧ i_Rel (k + 5) u v') v v1 v2) u v1 v2 := by
  refine I (fun u v => wpX_itemField (fun r => wpY_itemField (fun r' v' => r' = r ∧ i_Rel (k + 5) u v') v v1 v2) u v1 v2) ?_
  intro cap lim bs bi pc z ic xtt xpf xwe xda xpr xrp xne yne yie yde A D sz B C st se PS PN P b fo xs xty xcl xds xdl xnm xns xna xnp yfs xtl xva yfa hsl hbl hin hit
  have R : i_Rel (k + 5) (nI cap, nI lim, xtt, xpf, nI bs, nI bi, xwe, xda, nI pc, nI z, xpr, nI ic, xrp, xne, ar_I A, ar_I sz, ar_I B, ar_I st, ar_I se, ar_I P, ar_I b, xs, xty, xcl, xtl, xds, xdl, xva, xnm, xns, xna, xnp) (nI cap, nI lim, xtt, xpf, nI bs, nI bi, nI z, xpr, nI ic, yne, yie, yde, ar_I D, ar_I sz, ar_I C, ar_I st, ar_I se, ar_I PS, ar_I PN, ar_I b, yfa, ar_I fo, yfs, 32768) := rl_mk hsl hbl hin hit
  have h16 : ic ≤ 16 := hin.2.2
  rcases pk_ix v1 (n := ic) (by omega) with h | h | ⟨i, hi, rfl⟩
  · exact br_t h (br_t h ⟨rfl, R⟩)
  · have h' := ge_n h (by omega)
    exact br_f h'.1 (br_f h'.2 (br_f h'.1 (br_t h ⟨rfl, R⟩)))
  have p1 : ¬ nI i < 0 := nI_pos (by omega)
  have p2 : nI i < nI ic := nI_lt hi (by omega)
  have p3 : ¬ nI ic ≤ nI i := nI_ge hi (by omega)
  rcases pk_ix v2 (n := 11) (by omega) with h | h | ⟨f, hf, rfl⟩
  · exact br_f p1 (br_t p2 (br_t h (br_f p1 (br_f p3 (br_t h ⟨rfl, R⟩)))))
  · have h' := ge_n h (by omega)
    have h2 := le_n (n := 10) h (by omega)
    exact br_f p1 (br_t p2 (br_f h'.1 (br_t h2.1 (br_f p1 (br_f p3 (br_f h'.1 (br_f h2.2 ⟨rfl, R⟩)))))))
  have p4 : ¬ nI f < 0 := nI_pos (by omega)
  obtain ⟨F, m0, m1, c0, c1, g1, g2, g3, g4⟩ := hit i hi
  obtain ⟨⟨f0, f1, f2, f3, f4, f5, f6, f7, f8, f9, f10⟩, _⟩ := g3
  have YK : ∀ V : Int64, F f = V → wpY_itemField (fun r' v' => r' = V ∧ i_Rel (k + 5) (nI cap, nI lim, xtt, xpf, nI bs, nI bi, xwe, xda, nI pc, nI z, xpr, nI ic, xrp, xne, ar_I A, ar_I sz, ar_I B, ar_I st, ar_I se, ar_I P, ar_I b, xs, xty, xcl, xtl, xds, xdl, xva, xnm, xns, xna, xnp) v') (nI cap, nI lim, xtt, xpf, nI bs, nI bi, nI z, xpr, nI ic, yne, yie, yde, ar_I D, ar_I sz, ar_I C, ar_I st, ar_I se, ar_I PS, ar_I PN, ar_I b, yfa, ar_I fo, yfs, 32768) (nI i) (nI f) := by
    intro V hV
    refine br_f p1 (br_f p3 (br_f p4 (br_t (nI_le (b := 10) (by omega) (by decide)) ?_)))
    refine g4 (nI cap) xtt xpf (nI bs) (nI bi) xpr (nI ic) yne yie yde (ar_I D) (ar_I sz) (ar_I C) (ar_I st) (ar_I se) (ar_I PS) (ar_I PN) yfa yfs 32768 fo _ (fun yne yie yde yfa fo yfs q1 q2 q3 q4 q5 => ⟨vp_in_nI hf (by decide), ?_, rl_mk hsl hbl hin hit⟩)
    rw [nI_clamp (by omega), q1 f hf, hV]
  have iv : vp_in (nI i) 16 := vp_in_nI (by omega) (by decide)
  have ci : (nI i).toNatClampNeg = i := nI_clamp (by omega)
  have e2 : 2 * nI i = nI (2 * i) := ix_2 i
  have e3 : 2 * nI i + 1 = nI (2 * i + 1) := by rw [ix_2, nI_1]
  have i2 : vp_in (2 * nI i) 32 := pk_in (2 * i) 32 (by omega) e2
  have i3 : vp_in (2 * nI i + 1) 32 := pk_in (2 * i + 1) 32 (by omega) e3
  have c2 : (2 * nI i).toNatClampNeg = 2 * i := by rw [e2]; exact nI_clamp (by omega)
  have c3 : (2 * nI i + 1).toNatClampNeg = 2 * i + 1 := by rw [e3]; exact nI_clamp (by omega)
  refine br_f p1 (br_t p2 (br_f p4 (br_f (nI_nlt (a := 10) (by omega) (by decide)) ?_)))
  match f, hf, YK with
  | 0, _, YK => exact br_t (by decide) ⟨iv, YK _ (by rw [ci, f0])⟩
  | 1, _, YK => exact br_f (by decide) (br_t (by decide) ⟨iv, YK _ (by rw [ci, f1])⟩)
  | 2, _, YK => exact br_f (by decide) (br_f (by decide) (br_t (by decide) ⟨iv, YK _ (by rw [ci, f2])⟩))
  | 3, _, YK => exact br_f (by decide) (br_f (by decide) (br_f (by decide) (br_t (by decide) ⟨iv, YK _ (by rw [ci, f3])⟩)))
  | 4, _, YK => exact br_f (by decide) (br_f (by decide) (br_f (by decide) (br_f (by decide) (br_t (by decide) ⟨iv, YK _ (by rw [ci, f4])⟩))))
  | 5, _, YK => exact br_f (by decide) (br_f (by decide) (br_f (by decide) (br_f (by decide) (br_f (by decide) (br_t (by decide) ⟨iv, YK _ (by rw [ci, f5])⟩)))))
  | 6, _, YK => exact br_f (by decide) (br_f (by decide) (br_f (by decide) (br_f (by decide) (br_f (by decide) (br_f (by decide) (br_t (by decide) ⟨iv, YK _ (by rw [ci, f6])⟩))))))
  | 7, _, YK => exact br_f (by decide) (br_f (by decide) (br_f (by decide) (br_f (by decide) (br_f (by decide) (br_f (by decide) (br_f (by decide) (br_t (by decide) ⟨i2, YK _ (by rw [c2, f7])⟩)))))))
  | 8, _, YK => exact br_f (by decide) (br_f (by decide) (br_f (by decide) (br_f (by decide) (br_f (by decide) (br_f (by decide) (br_f (by decide) (br_f (by decide) (br_t (by decide) ⟨i2, YK _ (by rw [c2, f8])⟩))))))))
  | 9, _, YK => exact br_f (by decide) (br_f (by decide) (br_f (by decide) (br_f (by decide) (br_f (by decide) (br_f (by decide) (br_f (by decide) (br_f (by decide) (br_f (by decide) (br_t (by decide) ⟨i3, YK _ (by rw [c3, f9])⟩)))))))))
  | 10, _, YK => exact br_f (by decide) (br_f (by decide) (br_f (by decide) (br_f (by decide) (br_f (by decide) (br_f (by decide) (br_f (by decide) (br_f (by decide) (br_f (by decide) (br_f (by decide) (br_t (by decide) ⟨i3, YK _ (by rw [c3, f10])⟩))))))))))
/-! a name's number, and Y's find -/
theorem nn_lock (h16 : ic ≤ 16) (hit : it_ b z lim ic xs xty xcl xtl xds xdl xva xnm xns xna xnp) (v1 v2 : Int32) :
    ((∀ post : Int32 → Prop, post (-1) → wpX_nameNumber post (xca, xli, xtt, xpf, xbs, xbi, xwe, xda, xpc, xis, xpr, nI ic, xrp, xne, xsn, xss, xbu, xst, xse, xpl, xin, xs, xty, xcl, xtl, xds, xdl, xva, xnm, xns, xna, xnp) v1 v2) ∧
      (∀ post : Int32 → SY → Prop, (∀ (yne yie yde : Int32) (yfa : Nat → Int64) (fo : Nat → Nat) (yfs : Nat → Int32), post 0 (yca, nI lim, ytt, ypf, ybs, ybi, nI z, ypr, nI ic, yne, yie, yde, ysn, yss, ybu, yst, yse, yps, ypn, ar_I b, yfa, ar_I fo, yfs, ynn)) → wpY_find post (yca, nI lim, ytt, ypf, ybs, ybi, nI z, ypr, nI ic, yne, yie, yde, ysn, yss, ybu, yst, yse, yps, ypn, ar_I b, yfa, ar_I fo, yfs, ynn) v1 v2))
    ∨ (∃ (i w m : Nat) (c : Nat → Nat), i < 16 ∧ w < 2 ∧ v2 = nI w ∧ nf_ m c ∧ xns (2 * i + w) = nI m ∧ (∀ j, j < m → xnm (64 * (2 * i + w) + j) = nI (c j)) ∧
      (∀ post : Int32 → Prop, post (nI (2 * i + w)) → wpX_nameNumber post (xca, xli, xtt, xpf, xbs, xbi, xwe, xda, xpc, xis, xpr, nI ic, xrp, xne, xsn, xss, xbu, xst, xse, xpl, xin, xs, xty, xcl, xtl, xds, xdl, xva, xnm, xns, xna, xnp) v1 v2) ∧
      (∀ post : Int32 → SY → Prop, (∀ (yne yie yde : Int32) (yfa : Nat → Int64) (fo : Nat → Nat) (yfs : Nat → Int32), (∀ j, j < m → fo (64 * w + j) = c j) → yfs w = nI m → post 1 (yca, nI lim, ytt, ypf, ybs, ybi, nI z, ypr, nI ic, yne, yie, yde, ysn, yss, ybu, yst, yse, yps, ypn, ar_I b, yfa, ar_I fo, yfs, ynn)) → wpY_find post (yca, nI lim, ytt, ypf, ybs, ybi, nI z, ypr, nI ic, yne, yie, yde, ysn, yss, ybu, yst, yse, yps, ypn, ar_I b, yfa, ar_I fo, yfs, ynn) v1 v2)) := by
  rcases pk_ix v1 (n := ic) (by omega) with h | h | ⟨i, hi, rfl⟩
  · exact Or.inl ⟨fun post hp => br_t h hp, fun post hp => br_t h (hp yne yie yde yfa fo yfs)⟩
  · have h' := ge_n h (by omega)
    exact Or.inl ⟨fun post hp => br_f h'.1 (br_t h hp), fun post hp => br_f h'.1 (br_t h (hp yne yie yde yfa fo yfs))⟩
  have p1 : ¬ nI i < 0 := nI_pos (by omega)
  have p3 : ¬ nI ic ≤ nI i := nI_ge hi (by omega)
  rcases pk_ix v2 (n := 2) (by omega) with h | h | ⟨w, hw, rfl⟩
  · exact Or.inl ⟨fun post hp => br_f p1 (br_f p3 (br_t h hp)), fun post hp => br_f p1 (br_f p3 (br_t h (hp yne yie yde yfa fo yfs)))⟩
  · have h' := ge_n h (by omega)
    have h2 := (le_n (n := 1) h (by omega)).2
    exact Or.inl ⟨fun post hp => br_f p1 (br_f p3 (br_f h'.1 (br_f h2 hp))), fun post hp => br_f p1 (br_f p3 (br_f h'.1 (br_f h2 (hp yne yie yde yfa fo yfs))))⟩
  have p4 : ¬ nI w < 0 := nI_pos (by omega)
  have p5 : nI w ≤ 1 := nI_le (b := 1) (by omega) (by decide)
  obtain ⟨F, m0, m1, c0, c1, g1, g2, g3, g4⟩ := hit i hi
  obtain ⟨_, ⟨k1, k2, k3⟩, k4⟩ := g3
  have eN : 2 * nI i + nI w = nI (2 * i + w) := by rw [ix_2, nI_add]
  have iN : vp_in (nI (2 * i + w)) 32 := vp_in_nI (by omega) (by decide)
  have cN : (nI (2 * i + w)).toNatClampNeg = 2 * i + w := nI_clamp (by omega)
  have iw : vp_in (nI w) 2 := vp_in_nI hw (by decide)
  have cw : (nI w).toNatClampNeg = w := nI_clamp (by omega)
  -- a name that is there
  have SOME : ∀ (m : Nat) (c : Nat → Nat), nf_ m c → xns (2 * i + w) = nI m → (∀ j, j < m → xnm (64 * (2 * i + w) + j) = nI (c j)) → ¬ xna (2 * i + w) = -1 → (∀ (fo : Nat → Nat) (yfs : Nat → Int32), yfs 0 = nI m0 → yfs 1 = nI m1 → (∀ j, j < m0 → fo j = c0 j) → (∀ j, j < m1 → fo (64 + j) = c1 j) → (∀ j, j < m → fo (64 * w + j) = c j) ∧ yfs w = nI m) →
      (∃ (i' w' m : Nat) (c : Nat → Nat), i' < 16 ∧ w' < 2 ∧ nI w = nI w' ∧ nf_ m c ∧ xns (2 * i' + w') = nI m ∧ (∀ j, j < m → xnm (64 * (2 * i' + w') + j) = nI (c j)) ∧
      (∀ post : Int32 → Prop, post (nI (2 * i' + w')) → wpX_nameNumber post (xca, xli, xtt, xpf, xbs, xbi, xwe, xda, xpc, xis, xpr, nI ic, xrp, xne, xsn, xss, xbu, xst, xse, xpl, xin, xs, xty, xcl, xtl, xds, xdl, xva, xnm, xns, xna, xnp) (nI i) (nI w)) ∧
      (∀ post : Int32 → SY → Prop, (∀ (yne yie yde : Int32) (yfa : Nat → Int64) (fo : Nat → Nat) (yfs : Nat → Int32), (∀ j, j < m → fo (64 * w' + j) = c j) → yfs w' = nI m → post 1 (yca, nI lim, ytt, ypf, ybs, ybi, nI z, ypr, nI ic, yne, yie, yde, ysn, yss, ybu, yst, yse, yps, ypn, ar_I b, yfa, ar_I fo, yfs, ynn)) → wpY_find post (yca, nI lim, ytt, ypf, ybs, ybi, nI z, ypr, nI ic, yne, yie, yde, ysn, yss, ybu, yst, yse, yps, ypn, ar_I b, yfa, ar_I fo, yfs, ynn) (nI i) (nI w))) := by
    intro m c j1 j2 j3 j4 j5
    have hm := wn_lt j1.2.2
    have hm2 := j1.1
    refine ⟨i, w, m, c, by omega, hw, rfl, j1, j2, j3, fun post hp => br_f p1 (br_f p3 (br_f p4 (br_t p5 (nm_r eN ⟨iN, br_f (by rw [cN]; exact j4) hp⟩)))), fun post hp => br_f p1 (br_f p3 (br_f p4 (br_t p5 ?_)))⟩
    refine g4 yca ytt ypf ybs ybi ypr (nI ic) yne yie yde ysn yss ybu yst yse yps ypn yfa yfs ynn fo _ (fun yne yie yde yfa fo yfs q1 q2 q3 q4 q5 => ⟨iw, ?_⟩)
    obtain ⟨y1, y2⟩ := j5 fo yfs q2 q3 q4 q5
    exact br_f (by rw [cw, y2]; exact nI_nle (by omega) (by omega)) (hp yne yie yde yfa fo yfs y1 y2)
  by_cases w0 : w = 0
  · subst w0
    refine Or.inr (SOME m0 c0 g1 k1 k2 k3 (fun fo yfs a1 a2 a3 a4 => ⟨fun j hj => ?_, a1⟩))
    rw [Nat.mul_zero, Nat.zero_add]
    exact a3 j hj
  · have w1 : w = 1 := by omega
    subst w1
    rcases k4 with ⟨y1, y2⟩ | ⟨y1, y2, y3, y4⟩
    · refine Or.inl ⟨fun post hp => br_f p1 (br_f p3 (br_f p4 (br_t p5 (nm_r eN ⟨iN, br_t (by rw [cN]; exact y2) hp⟩)))), fun post hp => br_f p1 (br_f p3 (br_f p4 (br_t p5 ?_)))⟩
      refine g4 yca ytt ypf ybs ybi ypr (nI ic) yne yie yde ysn yss ybu yst yse yps ypn yfa yfs ynn fo _ (fun yne yie yde yfa fo yfs q1 q2 q3 q4 q5 => ⟨iw, ?_⟩)
      exact br_t (by rw [cw, q3, y1]; decide) (hp yne yie yde yfa fo yfs)
    · rcases g2 with g2 | g2
      · omega
      · exact Or.inr (SOME m1 c1 g2 y3 y4 y2 (fun fo yfs a1 a2 a3 a4 => ⟨fun j hj => a4 j hj, a2⟩))
end FIELD
end
section
/-! labels of a parsed name -/
section LAB
variable {xca xli xtt xpf xbs xbi xwe xda xpc xis xpr xic xrp xne : Int32} {xsn xss xbu xst xse xpl xin xs xty xcl : Nat → Int32} {xtl : Nat → Int64} {xds xdl : Nat → Int32} {xva : Nat → Int64} {xnm xns xna xnp : Nat → Int32}
variable {yca yli ytt ypf ybs ybi yis ypr yic yne yie yde : Int32} {ysn yss ybu yst yse yps ypn yin : Nat → Int32} {yfa : Nat → Int64} {yfo yfs : Nat → Int32} {ynn : Nat}
variable {A D sz B C st se PS PN P b fo c c0 c1 : Nat → Nat} {F : Nat → Int64} {cap lim bs bi pc z ic : Nat}
theorem lb_lp {nm w m L : Nat} (hnm : nm < 32) (hw : w < 2) (hm : m ≤ 64) (hL : L < 64) (hx : ∀ j, j < m → xnm (64 * nm + j) = nI (c j)) : ∀ N q t, m - q ≤ N → wn_ c q m → t ≤ L → t + (m - q) ≤ 64 →
    (∃ q', q' < m ∧ wn_ c q' m ∧ (∀ (n : Nat) (post : Int32 → Prop), N < n → post (nI (64 * nm + q')) → wX_labelAt_35 post (nI L) xca xli xtt xpf xbs xbi xwe xda xpc xis xpr xic xrp xne xsn xss xbu xst xse xpl xin xs xty xcl xtl xds xdl xva xnm xns xna xnp n (nI (64 * nm + q)) (nI t)) ∧
      (∀ (yca yli ytt ypf ybs ybi yis ypr yic yne yie yde : Int32) (ysn yss ybu yst yse yps ypn yin : Nat → Int32) (yfa : Nat → Int64) (yfs : Nat → Int32) (ynn : Nat) (fo : Nat → Nat) (n : Nat) (post : Int32 → Prop), (∀ j, j < m → fo (64 * w + j) = c j) → N < n → post (nI (64 * w + q')) → wY_labelAt_8 post (nI L) yca yli ytt ypf ybs ybi yis ypr yic yne yie yde ysn yss ybu yst yse yps ypn yin yfa (ar_I fo) yfs ynn n (nI (64 * w + q)) (nI t)))
    ∨ ((∀ (n : Nat) (post : Int32 → Prop), N < n → post (-1) → wX_labelAt_35 post (nI L) xca xli xtt xpf xbs xbi xwe xda xpc xis xpr xic xrp xne xsn xss xbu xst xse xpl xin xs xty xcl xtl xds xdl xva xnm xns xna xnp n (nI (64 * nm + q)) (nI t)) ∧
      (∀ (yca yli ytt ypf ybs ybi yis ypr yic yne yie yde : Int32) (ysn yss ybu yst yse yps ypn yin : Nat → Int32) (yfa : Nat → Int64) (yfs : Nat → Int32) (ynn : Nat) (fo : Nat → Nat) (n : Nat) (post : Int32 → Prop), (∀ j, j < m → fo (64 * w + j) = c j) → N < n → post (-1) → wY_labelAt_8 post (nI L) yca yli ytt ypf ybs ybi yis ypr yic yne yie yde ysn yss ybu yst yse yps ypn yin yfa (ar_I fo) yfs ynn n (nI (64 * w + q)) (nI t))) := by
  intro N
  induction N with
  | zero =>
    intro q t h1 h2
    have := wn_lt h2
    omega
  | succ N ih =>
    intro q t h1 h2 h3 h4
    have hq := wn_lt h2
    have t64 : ¬ (64 : Int32) ≤ nI t := nI_ge (b := 64) (by omega) (by decide)
    by_cases e : t = L
    · subst e
      refine Or.inl ⟨q, hq, h2, fun n post hn hp => ?_, ?_⟩
      · obtain ⟨n, rfl⟩ : ∃ m, n = m + 1 := ⟨n - 1, by omega⟩
        exact br_t (nI_le (Nat.le_refl _) (by omega)) hp
      · intro yca yli ytt ypf ybs ybi yis ypr yic yne yie yde ysn yss ybu yst yse yps ypn yin yfa yfs ynn fo n post hf hn hp
        obtain ⟨n, rfl⟩ : ∃ m, n = m + 1 := ⟨n - 1, by omega⟩
        exact br_f t64 (br_t rfl hp)
    have a1 : ¬ nI L ≤ nI t := nI_ge (by omega) (by omega)
    have a2 : ¬ nI t = nI L := ne_l e (by omega) (by omega)
    have iX : vp_in (nI (64 * nm + q)) 2048 := vp_in_nI (by omega) (by decide)
    have iY : vp_in (nI (64 * w + q)) 128 := vp_in_nI (by omega) (by decide)
    have rX : xnm (nI (64 * nm + q)).toNatClampNeg = nI (c q) := by rw [nI_clamp (by omega)]; exact hx q hq
    have rY : ∀ fo : Nat → Nat, (∀ j, j < m → fo (64 * w + j) = c j) → ar_I fo (nI (64 * w + q)).toNatClampNeg = nI (c q) := fun fo hf => by rw [ar_rd (64 * w + q), hf q hq]
    rcases wn_c h2 with ⟨k1, k2⟩ | ⟨k1, k2, k3, k4⟩
    · refine Or.inr ⟨fun n post hn hp => ?_, ?_⟩
      · obtain ⟨n, rfl⟩ : ∃ m, n = m + 1 := ⟨n - 1, by omega⟩
        exact br_f a1 ⟨iX, br_t (by rw [rX, k1]; rfl) hp⟩
      · intro yca yli ytt ypf ybs ybi yis ypr yic yne yie yde ysn yss ybu yst yse yps ypn yin yfa yfs ynn fo n post hf hn hp
        obtain ⟨n, rfl⟩ : ∃ m, n = m + 1 := ⟨n - 1, by omega⟩
        exact br_f t64 (br_f a2 ⟨iY, br_t (by rw [rY fo hf, k1]; rfl) hp⟩)
    · have n0 : ¬ nI (c q) = 0 := fun y => by have := (nI_i0 (by omega)).mp y; omega
      have eX : nI (64 * nm + q) + (1 + xnm (nI (64 * nm + q)).toNatClampNeg) = nI (64 * nm + (q + 1 + c q)) := by rw [rX, ix_p]; exact congrArg nI (by omega)
      have eY : ∀ fo : Nat → Nat, (∀ j, j < m → fo (64 * w + j) = c j) → nI (64 * w + q) + (1 + ar_I fo (nI (64 * w + q)).toNatClampNeg) = nI (64 * w + (q + 1 + c q)) := fun fo hf => by rw [rY fo hf, ix_p]; exact congrArg nI (by omega)
      rcases ih (q + 1 + c q) (t + 1) (by omega) k4 (by omega) (by omega) with ⟨q', g1, g2, hX, hY⟩ | ⟨hX, hY⟩
      · refine Or.inl ⟨q', g1, g2, fun n post hn hp => ?_, ?_⟩
        · obtain ⟨n, rfl⟩ : ∃ m, n = m + 1 := ⟨n - 1, by omega⟩
          exact br_f a1 ⟨iX, br_f (by rw [rX]; exact n0) ⟨iX, nm_r eX (nm_r (nI_1 t) (hX n post (by omega) hp))⟩⟩
        · intro yca yli ytt ypf ybs ybi yis ypr yic yne yie yde ysn yss ybu yst yse yps ypn yin yfa yfs ynn fo n post hf hn hp
          obtain ⟨n, rfl⟩ : ∃ m, n = m + 1 := ⟨n - 1, by omega⟩
          exact br_f t64 (br_f a2 ⟨iY, br_f (by rw [rY fo hf]; exact n0) ⟨iY, nm_r (eY fo hf) (nm_r (nI_1 t) (hY yca yli ytt ypf ybs ybi yis ypr yic yne yie yde ysn yss ybu yst yse yps ypn yin yfa yfs ynn fo n post hf (by omega) hp))⟩⟩)
      · refine Or.inr ⟨fun n post hn hp => ?_, ?_⟩
        · obtain ⟨n, rfl⟩ : ∃ m, n = m + 1 := ⟨n - 1, by omega⟩
          exact br_f a1 ⟨iX, br_f (by rw [rX]; exact n0) ⟨iX, nm_r eX (nm_r (nI_1 t) (hX n post (by omega) hp))⟩⟩
        · intro yca yli ytt ypf ybs ybi yis ypr yic yne yie yde ysn yss ybu yst yse yps ypn yin yfa yfs ynn fo n post hf hn hp
          obtain ⟨n, rfl⟩ : ∃ m, n = m + 1 := ⟨n - 1, by omega⟩
          exact br_f t64 (br_f a2 ⟨iY, br_f (by rw [rY fo hf]; exact n0) ⟨iY, nm_r (eY fo hf) (nm_r (nI_1 t) (hY yca yli ytt ypf ybs ybi yis ypr yic yne yie yde ysn yss ybu yst yse yps ypn yin yfa yfs ynn fo n post hf (by omega) hp))⟩⟩)
theorem y_lno {post : Int32 → Prop} {w m : Nat} {lab : Int32} (hw : w < 2) (hm : m ≤ 64) (hl : ∀ t, t < 64 → ¬ nI t = lab) (hf : ∀ j, j < m → fo (64 * w + j) = c j) (hp : post (-1)) : ∀ N q t n, m - q ≤ N → wn_ c q m → t + (m - q) ≤ 64 → N < n → wY_labelAt_8 post lab yca yli ytt ypf ybs ybi yis ypr yic yne yie yde ysn yss ybu yst yse yps ypn yin yfa (ar_I fo) yfs ynn n (nI (64 * w + q)) (nI t) := by
  intro N
  induction N with
  | zero =>
    intro q t n h1 h2
    have := wn_lt h2
    omega
  | succ N ih =>
    intro q t n h1 h2 h3 h4
    obtain ⟨n, rfl⟩ : ∃ m, n = m + 1 := ⟨n - 1, by omega⟩
    have hq := wn_lt h2
    have t64 : ¬ (64 : Int32) ≤ nI t := nI_ge (b := 64) (by omega) (by decide)
    have iY : vp_in (nI (64 * w + q)) 128 := vp_in_nI (by omega) (by decide)
    have rY : ar_I fo (nI (64 * w + q)).toNatClampNeg = nI (c q) := by rw [ar_rd (64 * w + q), hf q hq]
    rcases wn_c h2 with ⟨k1, k2⟩ | ⟨k1, k2, k3, k4⟩
    · exact br_f t64 (br_f (hl t (by omega)) ⟨iY, br_t (by rw [rY, k1]; rfl) hp⟩)
    · have n0 : ¬ nI (c q) = 0 := fun y => by have := (nI_i0 (by omega)).mp y; omega
      have eY : nI (64 * w + q) + (1 + ar_I fo (nI (64 * w + q)).toNatClampNeg) = nI (64 * w + (q + 1 + c q)) := by rw [rY, ix_p]; exact congrArg nI (by omega)
      exact br_f t64 (br_f (hl t (by omega)) ⟨iY, br_f (by rw [rY]; exact n0) ⟨iY, nm_r eY (nm_r (nI_1 t) (ih (q + 1 + c q) (t + 1) n (by omega) k4 (by omega) (by omega)))⟩⟩)
theorem y_laO {post : Int32 → Prop} {w m : Nat} {lab : Int32} (hw : w < 2) (hc : nf_ m c) (hl : lab < 0 ∨ nI 64 ≤ lab) (hf : ∀ j, j < m → fo (64 * w + j) = c j) (hp : post (-1)) : wpY_labelAt post (yca, yli, ytt, ypf, ybs, ybi, yis, ypr, yic, yne, yie, yde, ysn, yss, ybu, yst, yse, yps, ypn, yin, yfa, ar_I fo, yfs, ynn) (nI w) lab := by
  have hl' : ∀ t, t < 64 → ¬ nI t = lab := by
    intro t ht e
    subst e
    rcases hl with h | h
    · exact nI_pos (by omega) h
    · exact nI_ge (b := 64) ht (by decide) h
  refine nm_r (ix_a w) ⟨65, ?_⟩
  exact y_lno hw hc.1 hl' hf hp 64 0 0 65 (by have := hc.1; omega) hc.2.2 (by have := hc.1; omega) (by decide)
theorem x_laN {post : Int32 → Prop} {v1 v2 v3 : Int32} (hN : ∀ post : Int32 → Prop, post (-1) → wpX_nameNumber post (xca, xli, xtt, xpf, xbs, xbi, xwe, xda, xpc, xis, xpr, xic, xrp, xne, xsn, xss, xbu, xst, xse, xpl, xin, xs, xty, xcl, xtl, xds, xdl, xva, xnm, xns, xna, xnp) v1 v2) (hp : post (-1)) : wpX_labelAt post (xca, xli, xtt, xpf, xbs, xbi, xwe, xda, xpc, xis, xpr, xic, xrp, xne, xsn, xss, xbu, xst, xse, xpl, xin, xs, xty, xcl, xtl, xds, xdl, xva, xnm, xns, xna, xnp) v1 v2 v3 := by
  unfold wpX_labelAt
  exact hN _ (br_t (by decide) hp)
theorem x_laO {post : Int32 → Prop} {v1 v2 v3 : Int32} {nm : Nat} (hnm : nm < 32) (hN : ∀ post : Int32 → Prop, post (nI nm) → wpX_nameNumber post (xca, xli, xtt, xpf, xbs, xbi, xwe, xda, xpc, xis, xpr, xic, xrp, xne, xsn, xss, xbu, xst, xse, xpl, xin, xs, xty, xcl, xtl, xds, xdl, xva, xnm, xns, xna, xnp) v1 v2) (hl : v3 < 0 ∨ nI 64 ≤ v3) (hp : post (-1)) : wpX_labelAt post (xca, xli, xtt, xpf, xbs, xbi, xwe, xda, xpc, xis, xpr, xic, xrp, xne, xsn, xss, xbu, xst, xse, xpl, xin, xs, xty, xcl, xtl, xds, xdl, xva, xnm, xns, xna, xnp) v1 v2 v3 := by
  unfold wpX_labelAt
  refine hN _ (br_f (nI_pos (by omega)) ?_)
  rcases hl with h | h
  · exact br_t h hp
  · have h' := ge_n h (by decide)
    exact br_f h'.1 (br_f h'.2 hp)
theorem x_laI {post : Int32 → Prop} {v1 v2 : Int32} {nm L : Nat} (hnm : nm < 32) (hL : L < 64) (hN : ∀ post : Int32 → Prop, post (nI nm) → wpX_nameNumber post (xca, xli, xtt, xpf, xbs, xbi, xwe, xda, xpc, xis, xpr, xic, xrp, xne, xsn, xss, xbu, xst, xse, xpl, xin, xs, xty, xcl, xtl, xds, xdl, xva, xnm, xns, xna, xnp) v1 v2) (h : wX_labelAt_35 post (nI L) xca xli xtt xpf xbs xbi xwe xda xpc xis xpr xic xrp xne xsn xss xbu xst xse xpl xin xs xty xcl xtl xds xdl xva xnm xns xna xnp 65 (nI (64 * nm + 0)) (nI 0)) : wpX_labelAt post (xca, xli, xtt, xpf, xbs, xbi, xwe, xda, xpc, xis, xpr, xic, xrp, xne, xsn, xss, xbu, xst, xse, xpl, xin, xs, xty, xcl, xtl, xds, xdl, xva, xnm, xns, xna, xnp) v1 v2 (nI L) := by
  unfold wpX_labelAt
  exact hN _ (br_f (nI_pos (by omega)) (br_f (nI_pos (by omega)) (br_t (nI_lt (b := 64) hL (by decide)) (nm_r (ix_a nm) ⟨65, h⟩))))
theorem i_vc_labelLength {k : Nat} {u : SX} {v : SY} (I : i_Rel k u v) (hk : k + 5 ≤ 2562) (v1 : Int32) (v2 : Int32) (v3 : Int32) : wpX_labelLength (fun r => wpY_labelLength (fun r' v' => r' = r ∧ i_Rel (k + 5) u v') v v1 v2 v3) u v1 v2 v3 := by
  refine I (fun u v => wpX_labelLength (fun r => wpY_labelLength (fun r' v' => r' = r ∧ i_Rel (k + 5) u v') v v1 v2 v3) u v1 v2 v3) ?_
  intro cap lim bs bi pc z ic xtt xpf xwe xda xpr xrp xne yne yie yde A D sz B C st se PS PN P b fo xs xty xcl xds xdl xnm xns xna xnp yfs xtl xva yfa hsl hbl hin hit
  unfold wpX_labelLength
  rcases nn_lock (xca := nI cap) (xli := nI lim) (xtt := xtt) (xpf := xpf) (xbs := nI bs) (xbi := nI bi) (xwe := xwe) (xda := xda) (xpc := nI pc) (xis := nI z) (xpr := xpr) (xrp := xrp) (xne := xne) (xsn := ar_I A) (xss := ar_I sz) (xbu := ar_I B) (xst := ar_I st) (xse := ar_I se) (xpl := ar_I P) (xin := ar_I b) (xs := xs) (xty := xty) (xcl := xcl) (xtl := xtl) (xds := xds) (xdl := xdl) (xva := xva) (xnm := xnm) (xns := xns) (xna := xna) (xnp := xnp) (yca := nI cap) (ytt := xtt) (ypf := xpf) (ybs := nI bs) (ybi := nI bi) (ypr := xpr) (yne := yne) (yie := yie) (yde := yde) (ysn := ar_I D) (yss := ar_I sz) (ybu := ar_I C) (yst := ar_I st) (yse := ar_I se) (yps := ar_I PS) (ypn := ar_I PN) (yfa := yfa) (yfs := yfs) (ynn := 32768) (fo := fo) hin.2.2 hit v1 v2 with ⟨hN, hF⟩ | ⟨i, w, m, c, i1, w1, rfl, hc, n1, n2, hN, hF⟩
  · refine x_laN hN (br_f (by decide) ?_)
    unfold wpY_labelLength
    exact hF _ (fun yne yie yde yfa fo yfs => br_t rfl ⟨rfl, rl_mk hsl hbl hin hit⟩)
  have m64 := hc.1
  rcases pk_ix v3 (n := 64) (by decide) with h | h | ⟨L, hL, rfl⟩
  · refine x_laO (by omega) hN (Or.inl h) (br_f (by decide) ?_)
    unfold wpY_labelLength
    exact hF _ (fun yne yie yde yfa fo yfs f1 f2 => br_f (by decide) (y_laO w1 hc (Or.inl h) f1 (br_t rfl ⟨rfl, rl_mk hsl hbl hin hit⟩)))
  · refine x_laO (by omega) hN (Or.inr h) (br_f (by decide) ?_)
    unfold wpY_labelLength
    exact hF _ (fun yne yie yde yfa fo yfs f1 f2 => br_f (by decide) (y_laO w1 hc (Or.inr h) f1 (br_t rfl ⟨rfl, rl_mk hsl hbl hin hit⟩)))
  rcases lb_lp (xca := nI cap) (xli := nI lim) (xtt := xtt) (xpf := xpf) (xbs := nI bs) (xbi := nI bi) (xwe := xwe) (xda := xda) (xpc := nI pc) (xis := nI z) (xpr := xpr) (xic := nI ic) (xrp := xrp) (xne := xne) (xsn := ar_I A) (xss := ar_I sz) (xbu := ar_I B) (xst := ar_I st) (xse := ar_I se) (xpl := ar_I P) (xin := ar_I b) (xs := xs) (xty := xty) (xcl := xcl) (xtl := xtl) (xds := xds) (xdl := xdl) (xva := xva) (xns := xns) (xna := xna) (xnp := xnp) (L := L) (by omega) w1 m64 hL n2 64 0 0 (by omega) hc.2.2 (by omega) (by omega) with ⟨q, q1, q2, hX, hY⟩ | ⟨hX, hY⟩
  · refine x_laI (by omega) hL hN (hX 65 _ (by omega) (br_t (nI_pos' (by omega)) ⟨vp_in_nI (by omega) (by decide), ?_⟩))
    unfold wpY_labelLength
    refine hF _ (fun yne yie yde yfa fo yfs f1 f2 => br_f (by decide) (nm_r (ix_a w) ⟨65, ?_⟩))
    refine hY (nI cap) (nI lim) xtt xpf (nI bs) (nI bi) (nI z) xpr (nI ic) yne yie yde (ar_I D) (ar_I sz) (ar_I C) (ar_I st) (ar_I se) (ar_I PS) (ar_I PN) (ar_I b) yfa yfs 32768 fo 65 _ f1 (by decide) (br_f (nI_n1 (by omega)) ⟨vp_in_nI (by omega) (by decide), ?_, rl_mk hsl hbl hin hit⟩)
    rw [ar_rd (64 * w + q), f1 q q1, nI_clamp (by omega), n2 q q1]
  · refine x_laI (by omega) hL hN (hX 65 _ (by omega) (br_f (by decide) ?_))
    unfold wpY_labelLength
    refine hF _ (fun yne yie yde yfa fo yfs f1 f2 => br_f (by decide) (nm_r (ix_a w) ⟨65, ?_⟩))
    exact hY (nI cap) (nI lim) xtt xpf (nI bs) (nI bi) (nI z) xpr (nI ic) yne yie yde (ar_I D) (ar_I sz) (ar_I C) (ar_I st) (ar_I se) (ar_I PS) (ar_I PN) (ar_I b) yfa yfs 32768 fo 65 _ f1 (by decide) (br_t rfl ⟨rfl, rl_mk hsl hbl hin hit⟩)
theorem i_vc_labelByte {k : Nat} {u : SX} {v : SY} (I : i_Rel k u v) (hk : k + 5 ≤ 2562) (v1 : Int32) (v2 : Int32) (v3 : Int32) (v4 : Int32) : wpX_labelByte (fun r => wpY_labelByte (fun r' v' => r' = r ∧ i_Rel (k + 5) u v') v v1 v2 v3 v4) u v1 v2 v3 v4 := by
  refine I (fun u v => wpX_labelByte (fun r => wpY_labelByte (fun r' v' => r' = r ∧ i_Rel (k + 5) u v') v v1 v2 v3 v4) u v1 v2 v3 v4) ?_
  intro cap lim bs bi pc z ic xtt xpf xwe xda xpr xrp xne yne yie yde A D sz B C st se PS PN P b fo xs xty xcl xds xdl xnm xns xna xnp yfs xtl xva yfa hsl hbl hin hit
  unfold wpX_labelByte
  rcases nn_lock (xca := nI cap) (xli := nI lim) (xtt := xtt) (xpf := xpf) (xbs := nI bs) (xbi := nI bi) (xwe := xwe) (xda := xda) (xpc := nI pc) (xis := nI z) (xpr := xpr) (xrp := xrp) (xne := xne) (xsn := ar_I A) (xss := ar_I sz) (xbu := ar_I B) (xst := ar_I st) (xse := ar_I se) (xpl := ar_I P) (xin := ar_I b) (xs := xs) (xty := xty) (xcl := xcl) (xtl := xtl) (xds := xds) (xdl := xdl) (xva := xva) (xnm := xnm) (xns := xns) (xna := xna) (xnp := xnp) (yca := nI cap) (ytt := xtt) (ypf := xpf) (ybs := nI bs) (ybi := nI bi) (ypr := xpr) (yne := yne) (yie := yie) (yde := yde) (ysn := ar_I D) (yss := ar_I sz) (ybu := ar_I C) (yst := ar_I st) (yse := ar_I se) (yps := ar_I PS) (ypn := ar_I PN) (yfa := yfa) (yfs := yfs) (ynn := 32768) (fo := fo) hin.2.2 hit v1 v2 with ⟨hN, hF⟩ | ⟨i, w, m, c, i1, w1, rfl, hc, n1, n2, hN, hF⟩
  · refine x_laN hN (br_f (by decide) ?_)
    unfold wpY_labelByte
    exact hF _ (fun yne yie yde yfa fo yfs => br_t rfl ⟨rfl, rl_mk hsl hbl hin hit⟩)
  have m64 := hc.1
  rcases pk_ix v3 (n := 64) (by decide) with h | h | ⟨L, hL, rfl⟩
  · refine x_laO (by omega) hN (Or.inl h) (br_f (by decide) ?_)
    unfold wpY_labelByte
    exact hF _ (fun yne yie yde yfa fo yfs f1 f2 => br_f (by decide) (y_laO w1 hc (Or.inl h) f1 (br_t rfl ⟨rfl, rl_mk hsl hbl hin hit⟩)))
  · refine x_laO (by omega) hN (Or.inr h) (br_f (by decide) ?_)
    unfold wpY_labelByte
    exact hF _ (fun yne yie yde yfa fo yfs f1 f2 => br_f (by decide) (y_laO w1 hc (Or.inr h) f1 (br_t rfl ⟨rfl, rl_mk hsl hbl hin hit⟩)))
  rcases lb_lp (xca := nI cap) (xli := nI lim) (xtt := xtt) (xpf := xpf) (xbs := nI bs) (xbi := nI bi) (xwe := xwe) (xda := xda) (xpc := nI pc) (xis := nI z) (xpr := xpr) (xic := nI ic) (xrp := xrp) (xne := xne) (xsn := ar_I A) (xss := ar_I sz) (xbu := ar_I B) (xst := ar_I st) (xse := ar_I se) (xpl := ar_I P) (xin := ar_I b) (xs := xs) (xty := xty) (xcl := xcl) (xtl := xtl) (xds := xds) (xdl := xdl) (xva := xva) (xns := xns) (xna := xna) (xnp := xnp) (L := L) (by omega) w1 m64 hL n2 64 0 0 (by omega) hc.2.2 (by omega) (by omega) with ⟨q, q1, q2, hX, hY⟩ | ⟨hX, hY⟩
  · have cq := hc.2.1 q q1
    have rX : xnm (nI (64 * (2 * i + w) + q)).toNatClampNeg = nI (c q) := by rw [nI_clamp (by omega), n2 q q1]
    have iX : vp_in (nI (64 * (2 * i + w) + q)) 2048 := vp_in_nI (by omega) (by decide)
    have iY : vp_in (nI (64 * w + q)) 128 := vp_in_nI (by omega) (by decide)
    refine x_laI (by omega) hL hN (hX 65 _ (by omega) (br_t (nI_pos' (by omega)) ?_))
    have YK : ∀ r : Int32, (∀ (yne yie yde : Int32) (yfa : Nat → Int64) (fo : Nat → Nat) (yfs : Nat → Int32), (∀ j, j < m → fo (64 * w + j) = c j) →
        ((v4 < 0 → (-1 = r ∧ i_Rel (k + 5) (nI cap, nI lim, xtt, xpf, nI bs, nI bi, xwe, xda, nI pc, nI z, xpr, nI ic, xrp, xne, ar_I A, ar_I sz, ar_I B, ar_I st, ar_I se, ar_I P, ar_I b, xs, xty, xcl, xtl, xds, xdl, xva, xnm, xns, xna, xnp) (nI cap, nI lim, xtt, xpf, nI bs, nI bi, nI z, xpr, nI ic, yne, yie, yde, ar_I D, ar_I sz, ar_I C, ar_I st, ar_I se, ar_I PS, ar_I PN, ar_I b, yfa, ar_I fo, yfs, 32768))) ∧ (¬ v4 < 0 → (vp_in (nI (64 * w + q)) 128 ∧ ((v4 < ar_I fo (nI (64 * w + q)).toNatClampNeg → (vp_in (nI (64 * w + q) + 1 + v4) 128 ∧ (ar_I fo (nI (64 * w + q) + 1 + v4).toNatClampNeg = r ∧ i_Rel (k + 5) (nI cap, nI lim, xtt, xpf, nI bs, nI bi, xwe, xda, nI pc, nI z, xpr, nI ic, xrp, xne, ar_I A, ar_I sz, ar_I B, ar_I st, ar_I se, ar_I P, ar_I b, xs, xty, xcl, xtl, xds, xdl, xva, xnm, xns, xna, xnp) (nI cap, nI lim, xtt, xpf, nI bs, nI bi, nI z, xpr, nI ic, yne, yie, yde, ar_I D, ar_I sz, ar_I C, ar_I st, ar_I se, ar_I PS, ar_I PN, ar_I b, yfa, ar_I fo, yfs, 32768)))) ∧ (¬ v4 < ar_I fo (nI (64 * w + q)).toNatClampNeg → (-1 = r ∧ i_Rel (k + 5) (nI cap, nI lim, xtt, xpf, nI bs, nI bi, xwe, xda, nI pc, nI z, xpr, nI ic, xrp, xne, ar_I A, ar_I sz, ar_I B, ar_I st, ar_I se, ar_I P, ar_I b, xs, xty, xcl, xtl, xds, xdl, xva, xnm, xns, xna, xnp) (nI cap, nI lim, xtt, xpf, nI bs, nI bi, nI z, xpr, nI ic, yne, yie, yde, ar_I D, ar_I sz, ar_I C, ar_I st, ar_I se, ar_I PS, ar_I PN, ar_I b, yfa, ar_I fo, yfs, 32768))))))))
        → wpY_labelByte (fun r' v' => r' = r ∧ i_Rel (k + 5) (nI cap, nI lim, xtt, xpf, nI bs, nI bi, xwe, xda, nI pc, nI z, xpr, nI ic, xrp, xne, ar_I A, ar_I sz, ar_I B, ar_I st, ar_I se, ar_I P, ar_I b, xs, xty, xcl, xtl, xds, xdl, xva, xnm, xns, xna, xnp) v') (nI cap, nI lim, xtt, xpf, nI bs, nI bi, nI z, xpr, nI ic, yne, yie, yde, ar_I D, ar_I sz, ar_I C, ar_I st, ar_I se, ar_I PS, ar_I PN, ar_I b, yfa, ar_I fo, yfs, 32768) v1 (nI w) (nI L) v4 := by
      intro r hr
      unfold wpY_labelByte
      refine hF _ (fun yne yie yde yfa fo yfs f1 f2 => br_f (by decide) (nm_r (ix_a w) ⟨65, ?_⟩))
      exact hY (nI cap) (nI lim) xtt xpf (nI bs) (nI bi) (nI z) xpr (nI ic) yne yie yde (ar_I D) (ar_I sz) (ar_I C) (ar_I st) (ar_I se) (ar_I PS) (ar_I PN) (ar_I b) yfa yfs 32768 fo 65 _ f1 (by decide) (br_f (nI_n1 (by omega)) (hr yne yie yde yfa fo yfs f1))
    rcases pk_ix v4 (n := c q) (by omega) with h | h | ⟨p, hp, rfl⟩
    · exact br_t h (YK _ (fun yne yie yde yfa fo yfs f1 => br_t h ⟨rfl, rl_mk hsl hbl hin hit⟩))
    · have h' := ge_n h (by omega)
      exact br_f h'.1 ⟨iX, br_f (by rw [rX]; exact h'.2) (YK _ (fun yne yie yde yfa fo yfs f1 => br_f h'.1 ⟨iY, br_f (by rw [ar_rd (64 * w + q), f1 q q1]; exact h'.2) ⟨rfl, rl_mk hsl hbl hin hit⟩⟩))⟩
    · have h' : ¬ nI p < 0 := nI_pos (by omega)
      have h2 : nI p < nI (c q) := nI_lt hp (by omega)
      have hq : q + 1 + p < m := by
        rcases wn_c q2 with ⟨k1, k2⟩ | ⟨k1, k2, k3, k4⟩ <;> omega
      have eX : nI (64 * (2 * i + w) + q) + 1 + nI p = nI (64 * (2 * i + w) + (q + 1 + p)) := by rw [ix_q]; exact congrArg nI (by omega)
      have eY : nI (64 * w + q) + 1 + nI p = nI (64 * w + (q + 1 + p)) := by rw [ix_q]; exact congrArg nI (by omega)
      refine br_f h' ⟨iX, br_t (by rw [rX]; exact h2) ⟨pk_in (64 * (2 * i + w) + (q + 1 + p)) 2048 (by omega) eX, YK _ (fun yne yie yde yfa fo yfs f1 => br_f h' ⟨iY, br_t (by rw [ar_rd (64 * w + q), f1 q q1]; exact h2) ⟨pk_in (64 * w + (q + 1 + p)) 128 (by omega) eY, ?_, rl_mk hsl hbl hin hit⟩⟩)⟩⟩
      rw [ar_rd (64 * w + (q + 1 + p)) eY, f1 _ hq, eX, nI_clamp (by omega), n2 _ hq]
  · refine x_laI (by omega) hL hN (hX 65 _ (by omega) (br_f (by decide) ?_))
    unfold wpY_labelByte
    refine hF _ (fun yne yie yde yfa fo yfs f1 f2 => br_f (by decide) (nm_r (ix_a w) ⟨65, ?_⟩))
    exact hY (nI cap) (nI lim) xtt xpf (nI bs) (nI bi) (nI z) xpr (nI ic) yne yie yde (ar_I D) (ar_I sz) (ar_I C) (ar_I st) (ar_I se) (ar_I PS) (ar_I PN) (ar_I b) yfa yfs 32768 fo 65 _ f1 (by decide) (br_t rfl ⟨rfl, rl_mk hsl hbl hin hit⟩)
end LAB
end
section
/-! nameMatches, copyName -/
section LAST
variable {xca xli xtt xpf xbs xbi xwe xda xpc xis xpr xic xrp xne : Int32} {xsn xss xbu xst xse xpl xin xs xty xcl : Nat → Int32} {xtl : Nat → Int64} {xds xdl : Nat → Int32} {xva : Nat → Int64} {xnm xns xna xnp : Nat → Int32}
variable {yca yli ytt ypf ybs ybi yis ypr yic yne yie yde : Int32} {ysn yss ybu yst yse yps ypn yin : Nat → Int32} {yfa : Nat → Int64} {yfo yfs : Nat → Int32} {ynn : Nat}
variable {A D sz B C st se PS PN P b fo c c0 c1 : Nat → Nat} {F : Nat → Int64} {cap lim bs bi pc z ic : Nat}
theorem x_48 {post : Int32 → Prop} {s nm m : Nat} (hs : s < 4) (hnm : nm < 32) (hm : m ≤ 64) (hx : ∀ j, j < m → xnm (64 * nm + j) = nI (c j)) (hc : ∀ j, j < m → c j < 256) (hA : ∀ j, A j < 256)
    (y1 : (∀ j, j < m → fo_ (c j) = fo_ (A (64 * s + j))) → post 1) (y0 : ¬ (∀ j, j < m → fo_ (c j) = fo_ (A (64 * s + j))) → post 0) :
    ∀ d i n, i + d = m → d < n → (∀ j, j < i → fo_ (c j) = fo_ (A (64 * s + j))) → wX_nameMatches_48 post (nI s) (nI nm) (nI m) xca xli xtt xpf xbs xbi xwe xda xpc xis xpr xic xrp xne (ar_I A) xss xbu xst xse xpl xin xs xty xcl xtl xds xdl xva xnm xns xna xnp n (nI i) := by
  intro d
  induction d with
  | zero =>
    intro i n h1 h2 h3
    obtain ⟨n, rfl⟩ : ∃ m, n = m + 1 := ⟨n - 1, by omega⟩
    exact br_t (nI_le (by omega) (by omega)) (y1 (fun j hj => h3 j (by omega)))
  | succ d ih =>
    intro i n h1 h2 h3
    obtain ⟨n, rfl⟩ : ∃ m, n = m + 1 := ⟨n - 1, by omega⟩
    have b1 := hc i (by omega)
    have b2 := hA (64 * s + i)
    have f1 := fo_lt b1
    have f2 := fo_lt b2
    have rX : xnm (nI nm * 64 + nI i).toNatClampNeg = nI (c i) := by rw [ix_b, nI_clamp (by omega)]; exact hx i (by omega)
    refine br_f (nI_ge (by omega) (by omega)) ⟨pk_in (64 * nm + i) 2048 (by omega) (ix_b nm i), x_fold rX (by omega) ⟨pk_in (64 * s + i) 256 (by omega) (ix_b s i), x_fold (ar_rd (64 * s + i) (ix_b s i)) (by omega) (pk_eq (fo_ (c i)) (fo_ (A (64 * s + i))) (fun e => nm_r (nI_1 i) (ih (i + 1) n (by omega) (by omega) (fun j hj => ?_))) (fun e => y0 (fun hall => e (hall i (by omega)))))⟩⟩
    by_cases y : j = i
    · rw [y]; exact e
    · exact h3 j (by omega)
theorem y_47 {post : Int32 → SY → Prop} {s w m : Nat} (hs : s < 4) (hw : w < 2) (hm : m ≤ 64) (hz : sz s = m) (hx : ∀ j, j < m → fo (64 * w + j) = c j) (hc : ∀ j, j < m → c j < 256) (hA : ∀ j, j < m → D (64 * s + j) < 256)
    (y1 : (∀ j, j < m → fo_ (c j) = fo_ (D (64 * s + j))) → post 1 (yca, yli, ytt, ypf, ybs, ybi, yis, ypr, yic, yne, yie, yde, ar_I D, ar_I sz, ybu, yst, yse, yps, ypn, yin, yfa, ar_I fo, yfs, ynn)) (y0 : ¬ (∀ j, j < m → fo_ (c j) = fo_ (D (64 * s + j))) → post 0 (yca, yli, ytt, ypf, ybs, ybi, yis, ypr, yic, yne, yie, yde, ar_I D, ar_I sz, ybu, yst, yse, yps, ypn, yin, yfa, ar_I fo, yfs, ynn)) :
    ∀ d i n, i + d = m → d < n → (∀ j, j < i → fo_ (c j) = fo_ (D (64 * s + j))) → wY_nameMatches_47 post (nI w) (nI s) yca yli ytt ypf ybs ybi yis ypr yic yne yie yde (ar_I D) (ar_I sz) ybu yst yse yps ypn yin yfa (ar_I fo) yfs ynn n 1 (nI i) := by
  have i4 : vp_in (nI s) 4 := vp_in_nI hs (by decide)
  have r4 : ar_I sz (nI s).toNatClampNeg = nI m := by rw [ar_rd s, hz]
  intro d
  induction d with
  | zero =>
    intro i n h1 h2 h3
    obtain ⟨n, rfl⟩ : ∃ m, n = m + 1 := ⟨n - 1, by omega⟩
    exact And.intro i4 (br_t (by rw [r4]; exact nI_le (by omega) (by omega)) ⟨by decide, y1 (fun j hj => h3 j (by omega))⟩)
  | succ d ih =>
    intro i n h1 h2 h3
    obtain ⟨n, rfl⟩ : ∃ m, n = m + 1 := ⟨n - 1, by omega⟩
    have b1 := hc i (by omega)
    have b2 := hA i (by omega)
    have f1 := fo_lt b1
    have f2 := fo_lt b2
    have rY : ar_I fo (nI w * 64 + nI i).toNatClampNeg = nI (c i) := by rw [ar_rd (64 * w + i) (ix_b w i), hx i (by omega)]
    refine And.intro i4 (br_f (by rw [r4]; exact nI_ge (by omega) (by omega)) (br_f (by decide) ⟨pk_in (64 * w + i) 128 (by omega) (ix_b w i), y_fold rY (by omega) ⟨pk_in (64 * s + i) 256 (by omega) (ix_b s i), y_fold (ar_rd (64 * s + i) (ix_b s i)) (by omega) (pk_eq (fo_ (c i)) (fo_ (D (64 * s + i))) (fun e => nm_r (nI_1 i) (ih (i + 1) n (by omega) (by omega) (fun j hj => ?_))) (fun e => nm_r (nI_1 i) ?_))⟩⟩))
    · by_cases y : j = i
      · rw [y]; exact e
      · exact h3 j (by omega)
    · obtain ⟨n, rfl⟩ : ∃ m, n = m + 1 := ⟨n - 1, by omega⟩
      have K := y0 (fun hall => e (hall i (by omega)))
      exact And.intro i4 (br_c (fun _ => ⟨by decide, K⟩) (fun _ => br_t rfl ⟨by decide, K⟩))
theorem i_vc_nameMatches {k : Nat} {u : SX} {v : SY} (I : i_Rel k u v) (hk : k + 5 ≤ 2562) (v1 : Int32) (v2 : Int32) (v3 : Int32) : wpX_nameMatches (fun r => wpY_nameMatches (fun r' v' => r' = r ∧ i_Rel (k + 5) u v') v v1 v2 v3) u v1 v2 v3 := by
  refine I (fun u v => wpX_nameMatches (fun r => wpY_nameMatches (fun r' v' => r' = r ∧ i_Rel (k + 5) u v') v v1 v2 v3) u v1 v2 v3) ?_
  intro cap lim bs bi pc z ic xtt xpf xwe xda xpr xrp xne yne yie yde A D sz B C st se PS PN P b fo xs xty xcl xds xdl xnm xns xna xnp yfs xtl xva yfa hsl hbl hin hit
  have R : i_Rel (k + 5) (nI cap, nI lim, xtt, xpf, nI bs, nI bi, xwe, xda, nI pc, nI z, xpr, nI ic, xrp, xne, ar_I A, ar_I sz, ar_I B, ar_I st, ar_I se, ar_I P, ar_I b, xs, xty, xcl, xtl, xds, xdl, xva, xnm, xns, xna, xnp) (nI cap, nI lim, xtt, xpf, nI bs, nI bi, nI z, xpr, nI ic, yne, yie, yde, ar_I D, ar_I sz, ar_I C, ar_I st, ar_I se, ar_I PS, ar_I PN, ar_I b, yfa, ar_I fo, yfs, 32768) := rl_mk hsl hbl hin hit
  unfold wpX_nameMatches
  rcases nn_lock (xca := nI cap) (xli := nI lim) (xtt := xtt) (xpf := xpf) (xbs := nI bs) (xbi := nI bi) (xwe := xwe) (xda := xda) (xpc := nI pc) (xis := nI z) (xpr := xpr) (xrp := xrp) (xne := xne) (xsn := ar_I A) (xss := ar_I sz) (xbu := ar_I B) (xst := ar_I st) (xse := ar_I se) (xpl := ar_I P) (xin := ar_I b) (xs := xs) (xty := xty) (xcl := xcl) (xtl := xtl) (xds := xds) (xdl := xdl) (xva := xva) (xnm := xnm) (xns := xns) (xna := xna) (xnp := xnp) (yca := nI cap) (ytt := xtt) (ypf := xpf) (ybs := nI bs) (ybi := nI bi) (ypr := xpr) (yne := yne) (yie := yie) (yde := yde) (ysn := ar_I D) (yss := ar_I sz) (ybu := ar_I C) (yst := ar_I st) (yse := ar_I se) (yps := ar_I PS) (ypn := ar_I PN) (yfa := yfa) (yfs := yfs) (ynn := 32768) (fo := fo) hin.2.2 hit v1 v2 with ⟨hN, hF⟩ | ⟨i, w, m, c, i1, w1, rfl, hc, n1, n2, hN, hF⟩
  · refine hN _ (br_t (by decide) ?_)
    rcases sl_cs v3 with h | ⟨s, hs, rfl⟩
    · exact ns_br h ⟨rfl, R⟩
    · exact sl_br hs (hF _ (fun yne yie yde yfa fo yfs => br_t rfl ⟨rfl, rl_mk hsl hbl hin hit⟩))
  refine hN _ (br_f (nI_pos (by omega)) ?_)
  rcases sl_cs v3 with h | ⟨s, hs, rfl⟩
  · exact x_nslot h (br_t rfl (ns_br h ⟨rfl, R⟩))
  obtain ⟨z1, z2, z3, z4⟩ := hsl.2 s hs
  have m64 := hc.1
  have i4 : vp_in (nI s) 4 := vp_in_nI hs (by decide)
  have iw : vp_in (nI w) 2 := vp_in_nI w1 (by decide)
  have rS : ar_I sz (nI s).toNatClampNeg = nI (sz s) := ar_rd s
  refine x_slot hs (br_f (by decide) ⟨vp_in_nI (by omega) (by decide), nm_r (e' := nI m) (by rw [nI_clamp (by omega), n1]) ⟨i4, ?_⟩⟩)
  rw [rS]
  by_cases hz : m = sz s
  · have hD : (∀ j, j < m → fo_ (c j) = fo_ (A (64 * s + j))) ↔ (∀ j, j < m → fo_ (c j) = fo_ (D (64 * s + j))) :=
      ⟨fun h j hj => by rw [z3 j (by omega)]; exact h j hj, fun h j hj => by rw [← z3 j (by omega)]; exact h j hj⟩
    refine br_t (by rw [hz]) ⟨m + 1, x_48 hs (by omega) m64 n2 hc.2.1 hsl.1 (fun hall => ?_) (fun hno => ?_) m 0 (m + 1) (by omega) (by omega) (fun j hj => absurd hj (Nat.not_lt_zero j))⟩
    · refine sl_br hs (hF _ (fun yne yie yde yfa fo yfs f1 f2 => br_f (by decide) ⟨iw, i4, br_t (by rw [nI_clamp (by omega), f2, rS, hz]) ⟨m + 1, ?_⟩⟩))
      exact y_47 hs w1 m64 hz.symm f1 hc.2.1 (fun j hj => by rw [z3 j (by omega)]; exact hsl.1 _) (fun _ => ⟨rfl, rl_mk hsl hbl hin hit⟩) (fun hn => absurd (hD.mp hall) hn) m 0 (m + 1) (by omega) (by omega) (fun j hj => absurd hj (Nat.not_lt_zero j))
    · refine sl_br hs (hF _ (fun yne yie yde yfa fo yfs f1 f2 => br_f (by decide) ⟨iw, i4, br_t (by rw [nI_clamp (by omega), f2, rS, hz]) ⟨m + 1, ?_⟩⟩))
      exact y_47 hs w1 m64 hz.symm f1 hc.2.1 (fun j hj => by rw [z3 j (by omega)]; exact hsl.1 _) (fun ha => absurd (hD.mpr ha) hno) (fun _ => ⟨rfl, rl_mk hsl hbl hin hit⟩) m 0 (m + 1) (by omega) (by omega) (fun j hj => absurd hj (Nat.not_lt_zero j))
  · have ne := ne_l hz (by omega) (by omega)
    refine br_f ne (sl_br hs (hF _ (fun yne yie yde yfa fo yfs f1 f2 => br_f (by decide) ⟨iw, i4, br_f (by rw [nI_clamp (by omega), f2, rS]; exact ne) ⟨1, ?_⟩⟩)))
    exact And.intro i4 (br_f (by rw [rS]; exact nI_nle (by omega) (by omega)) (br_t rfl ⟨by decide, rfl, rl_mk hsl hbl hin hit⟩))
/-! copyName -/
theorem x_38 {post : Int32 → SX → Prop} {s nm m : Nat} (hs : s < 4) (hnm : nm < 32) (hm : m ≤ 64) (hx : ∀ j, j < m → xnm (64 * nm + j) = nI (c j)) (h : post (nI m) (xca, xli, xtt, xpf, xbs, xbi, xwe, xda, xpc, xis, xpr, xic, xrp, xne, ar_I (ar_bw A (64 * s) c m), ar_I (ar_u sz s m), xbu, xst, xse, xpl, xin, xs, xty, xcl, xtl, xds, xdl, xva, xnm, xns, xna, xnp)) :
    ∀ d i n, i + d = m → d < n → wX_copyName_38 post (nI s) (nI nm) (nI m) xca xli xtt xpf xbs xbi xwe xda xpc xis xpr xic xrp xne n (nI i) (ar_I (ar_bw A (64 * s) c i)) (ar_I sz) xbu xst xse xpl xin xs xty xcl xtl xds xdl xva xnm xns xna xnp := by
  intro d
  induction d with
  | zero =>
    intro i n h1 h2
    obtain ⟨n, rfl⟩ : ∃ m, n = m + 1 := ⟨n - 1, by omega⟩
    have e : i = m := by omega
    subst e
    exact br_t (nI_le (by omega) (by omega)) ⟨vp_in_nI hs (by decide), nm_r (ar_st s i) h⟩
  | succ d ih =>
    intro i n h1 h2
    obtain ⟨n, rfl⟩ : ∃ m, n = m + 1 := ⟨n - 1, by omega⟩
    have K := ih (i + 1) n (by omega) (by omega)
    rw [← ar_bS] at K
    have rX : xnm (nI nm * 64 + nI i).toNatClampNeg = nI (c i) := by rw [ix_b, nI_clamp (by omega)]; exact hx i (by omega)
    exact br_f (nI_ge (by omega) (by omega)) ⟨pk_in (64 * nm + i) 2048 (by omega) (ix_b nm i), pk_in (64 * s + i) 256 (by omega) (ix_b s i), nm_r (ar_st (64 * s + i) (c i) (ix_b s i) rX) (nm_r (nI_1 i) K)⟩
theorem y_26 {post : Int32 → SY → Prop} {s w m : Nat} (hs : s < 4) (hw : w < 2) (hf : yfs w = nI m) (h : post (nI m) (yca, yli, ytt, ypf, ybs, ybi, yis, ypr, yic, yne, yie, yde, ar_I (ar_bw D (64 * s) (fun j => fo (64 * w + j)) 64), ar_I (ar_u sz s m), ybu, yst, yse, yps, ypn, yin, yfa, ar_I fo, yfs, ynn)) :
    ∀ d i n, i + d = 64 → d < n → wY_copyName_26 post (nI s) (nI w) yca yli ytt ypf ybs ybi yis ypr yic yne yie yde ynn n (nI i) (ar_I (ar_bw D (64 * s) (fun j => fo (64 * w + j)) i)) (ar_I sz) ybu yst yse yps ypn yin yfa (ar_I fo) yfs := by
  intro d
  induction d with
  | zero =>
    intro i n h1 h2
    obtain ⟨n, rfl⟩ : ∃ m, n = m + 1 := ⟨n - 1, by omega⟩
    have e : i = 64 := by omega
    subst e
    have i4 : vp_in (nI s) 4 := vp_in_nI hs (by decide)
    refine br_t (by decide) ⟨vp_in_nI hw (by decide), i4, nm_r (ar_st s m rfl (by rw [nI_clamp (by omega), hf])) ⟨i4, ?_⟩⟩
    rw [ar_rd s, ar_us]
    exact h
  | succ d ih =>
    intro i n h1 h2
    obtain ⟨n, rfl⟩ : ∃ m, n = m + 1 := ⟨n - 1, by omega⟩
    have K := ih (i + 1) n (by omega) (by omega)
    rw [← ar_bS] at K
    exact br_f (nI_ge (b := 64) (by omega) (by decide)) ⟨pk_in (64 * w + i) 128 (by omega) (ix_b w i), pk_in (64 * s + i) 256 (by omega) (ix_b s i), nm_r (ar_st (64 * s + i) (fo (64 * w + i)) (ix_b s i) (ar_rd (64 * w + i) (ix_b w i))) (nm_r (nI_1 i) K)⟩
theorem sl_cp {s w m : Nat} (h : sl_ A D sz) (hs : s < 4) (hc : nf_ m c) (hf : ∀ j, j < m → fo (64 * w + j) = c j) : sl_ (ar_bw A (64 * s) c m) (ar_bw D (64 * s) (fun j => fo (64 * w + j)) 64) (ar_u sz s m) := by
  have m64 := hc.1
  refine sl_up h (by_w h.1 hc.2.1) (fun j hj => ar_bo (by omega)) (fun j hj => ar_bo (by omega)) m64 (fun j hj => ?_) ?_
  · rw [ar_bi (by omega) (by omega), ar_bi (by omega) (by omega), show 64 * s + j - 64 * s = j by omega]
    exact hf j hj
  · refine wn_mv (A := c) (a := 0) (by rw [Nat.zero_add]; exact hc.2.2) (fun j hj => ?_)
    rw [ar_bi (by omega) (by omega), show 64 * s + j - 64 * s = j by omega, Nat.zero_add]
theorem i_vc_copyName {k : Nat} {u : SX} {v : SY} (I : i_Rel k u v) (hk : k + 5 ≤ 2562) (v1 : Int32) (v2 : Int32) (v3 : Int32) : wpX_copyName (fun r u' => wpY_copyName (fun r' v' => r' = r ∧ i_Rel (k + 5) u' v') v v1 v2 v3) u v1 v2 v3 := by
  refine I (fun u v => wpX_copyName (fun r u' => wpY_copyName (fun r' v' => r' = r ∧ i_Rel (k + 5) u' v') v v1 v2 v3) u v1 v2 v3) ?_
  intro cap lim bs bi pc z ic xtt xpf xwe xda xpr xrp xne yne yie yde A D sz B C st se PS PN P b fo xs xty xcl xds xdl xnm xns xna xnp yfs xtl xva yfa hsl hbl hin hit
  have R : i_Rel (k + 5) (nI cap, nI lim, xtt, xpf, nI bs, nI bi, xwe, xda, nI pc, nI z, xpr, nI ic, xrp, xne, ar_I A, ar_I sz, ar_I B, ar_I st, ar_I se, ar_I P, ar_I b, xs, xty, xcl, xtl, xds, xdl, xva, xnm, xns, xna, xnp) (nI cap, nI lim, xtt, xpf, nI bs, nI bi, nI z, xpr, nI ic, yne, yie, yde, ar_I D, ar_I sz, ar_I C, ar_I st, ar_I se, ar_I PS, ar_I PN, ar_I b, yfa, ar_I fo, yfs, 32768) := rl_mk hsl hbl hin hit
  unfold wpX_copyName
  rcases sl_cs v1 with h | ⟨s, hs, rfl⟩
  · exact x_nslot h (br_t rfl (ns_br h ⟨rfl, R⟩))
  refine x_slot hs (br_f (by decide) ?_)
  rcases nn_lock (xca := nI cap) (xli := nI lim) (xtt := xtt) (xpf := xpf) (xbs := nI bs) (xbi := nI bi) (xwe := xwe) (xda := xda) (xpc := nI pc) (xis := nI z) (xpr := xpr) (xrp := xrp) (xne := xne) (xsn := ar_I A) (xss := ar_I sz) (xbu := ar_I B) (xst := ar_I st) (xse := ar_I se) (xpl := ar_I P) (xin := ar_I b) (xs := xs) (xty := xty) (xcl := xcl) (xtl := xtl) (xds := xds) (xdl := xdl) (xva := xva) (xnm := xnm) (xns := xns) (xna := xna) (xnp := xnp) (yca := nI cap) (ytt := xtt) (ypf := xpf) (ybs := nI bs) (ybi := nI bi) (ypr := xpr) (yne := yne) (yie := yie) (yde := yde) (ysn := ar_I D) (yss := ar_I sz) (ybu := ar_I C) (yst := ar_I st) (yse := ar_I se) (yps := ar_I PS) (ypn := ar_I PN) (yfa := yfa) (yfs := yfs) (ynn := 32768) (fo := fo) hin.2.2 hit v2 v3 with ⟨hN, hF⟩ | ⟨i, w, m, c, i1, w1, rfl, hc, n1, n2, hN, hF⟩
  · refine hN _ (br_f (by decide) ?_)
    exact sl_br hs (hF _ (fun yne yie yde yfa fo yfs => br_t rfl ⟨rfl, rl_mk hsl hbl hin hit⟩))
  have m64 := hc.1
  refine hN _ (br_t (nI_pos' (by omega)) ⟨vp_in_nI (by omega) (by decide), nm_r (e' := nI m) (by rw [nI_clamp (by omega), n1]) ⟨m + 1, ?_⟩⟩)
  have YK : wpY_copyName (fun r' v' => r' = nI m ∧ i_Rel (k + 5) (nI cap, nI lim, xtt, xpf, nI bs, nI bi, xwe, xda, nI pc, nI z, xpr, nI ic, xrp, xne, ar_I (ar_bw A (64 * s) c m), ar_I (ar_u sz s m), ar_I B, ar_I st, ar_I se, ar_I P, ar_I b, xs, xty, xcl, xtl, xds, xdl, xva, xnm, xns, xna, xnp) v') (nI cap, nI lim, xtt, xpf, nI bs, nI bi, nI z, xpr, nI ic, yne, yie, yde, ar_I D, ar_I sz, ar_I C, ar_I st, ar_I se, ar_I PS, ar_I PN, ar_I b, yfa, ar_I fo, yfs, 32768) (nI s) v2 (nI w) := by
    refine sl_br hs (hF _ (fun yne yie yde yfa fo yfs f1 f2 => br_f (by decide) ⟨65, ?_⟩))
    have K := y_26 (post := fun r' v' => r' = nI m ∧ i_Rel (k + 5) (nI cap, nI lim, xtt, xpf, nI bs, nI bi, xwe, xda, nI pc, nI z, xpr, nI ic, xrp, xne, ar_I (ar_bw A (64 * s) c m), ar_I (ar_u sz s m), ar_I B, ar_I st, ar_I se, ar_I P, ar_I b, xs, xty, xcl, xtl, xds, xdl, xva, xnm, xns, xna, xnp) v') (D := D) (sz := sz) (fo := fo) (yca := nI cap) (yli := nI lim) (ytt := xtt) (ypf := xpf) (ybs := nI bs) (ybi := nI bi) (yis := nI z) (ypr := xpr) (yic := nI ic) (yne := yne) (yie := yie) (yde := yde) (ybu := ar_I C) (yst := ar_I st) (yse := ar_I se) (yps := ar_I PS) (ypn := ar_I PN) (yin := ar_I b) (yfa := yfa) (yfs := yfs) (ynn := 32768) hs w1 f2 ⟨rfl, rl_mk (sl_cp hsl hs hc f1) hbl hin hit⟩ 64 0 65 (by omega) (by omega)
    rw [ar_b0] at K
    exact K
  have K := x_38 (post := fun r u' => wpY_copyName (fun r' v' => r' = r ∧ i_Rel (k + 5) u' v') (nI cap, nI lim, xtt, xpf, nI bs, nI bi, nI z, xpr, nI ic, yne, yie, yde, ar_I D, ar_I sz, ar_I C, ar_I st, ar_I se, ar_I PS, ar_I PN, ar_I b, yfa, ar_I fo, yfs, 32768) (nI s) v2 (nI w)) (sz := sz) (A := A) (xca := nI cap) (xli := nI lim) (xtt := xtt) (xpf := xpf) (xbs := nI bs) (xbi := nI bi) (xwe := xwe) (xda := xda) (xpc := nI pc) (xis := nI z) (xpr := xpr) (xic := nI ic) (xrp := xrp) (xne := xne) (xbu := ar_I B) (xst := ar_I st) (xse := ar_I se) (xpl := ar_I P) (xin := ar_I b) (xs := xs) (xty := xty) (xcl := xcl) (xtl := xtl) (xds := xds) (xdl := xdl) (xva := xva) (xnm := xnm) (xns := xns) (xna := xna) (xnp := xnp) hs (by omega) m64 n2 YK m 0 (m + 1) (by omega) (by omega)
  rw [ar_b0] at K
  exact K
end LAST
end
