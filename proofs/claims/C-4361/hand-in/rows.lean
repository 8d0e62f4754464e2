section
/-! pure rows to paste: stores, nI and lN arithmetic, masks, shifts, narrowing, branches by naturals (pk_le, pk_lt, pk_eq), loops (lp1 .. lp16: the measure of the state; rp1 ..: recursion), negatives. Take what you need -/
theorem pk_us {f : Nat → Int32} {k : Nat} {x : Int32} : upd f k x k = x := if_pos rfl
theorem pk_un {f : Nat → Int32} {k j : Nat} {x : Int32} (h : j ≠ k) : upd f k x j = f j := if_neg h
theorem pk_uLs {f : Nat → Int64} {k : Nat} {x : Int64} : vp_updL f k x k = x := if_pos rfl
theorem pk_uLn {f : Nat → Int64} {k j : Nat} {x : Int64} (h : j ≠ k) : vp_updL f k x j = f j := if_neg h
theorem pk_sub {a b : Nat} (h : b ≤ a) : nI a - nI b = nI (a - b) := by
  obtain ⟨c, rfl⟩ : ∃ c, a = c + b := ⟨a - b, by omega⟩
  rw [← nI_add, Int32.add_sub_cancel, Nat.add_sub_cancel]
theorem pk_m1 (n : Nat) : nI (n + 1) + (-1) = nI n := by
  rw [← nI_1, Int32.add_assoc, show (1 : Int32) + (-1) = 0 from rfl, Int32.add_zero]
theorem pk_mul (a b : Nat) : nI a * nI b = nI (a * b) := (Int32.ofNat_mul a b).symm
theorem pk_div {a d : Nat} (ha : a < 2 ^ 31) (h0 : 0 < d) (hd : d < 2 ^ 31) : nI a / nI d = nI (a / d) := by
  apply Int32.toInt_inj.mp
  rw [lg_idiv_nonneg (by rw [nI_toInt ha]; omega) (by rw [nI_toInt hd]; omega), nI_toInt ha, nI_toInt hd, nI_toInt (Nat.lt_of_le_of_lt (Nat.div_le_self a d) ha)]
  first | rfl | exact (Int.natCast_ediv _ _).symm
theorem pk_rem {a d : Nat} (ha : a < 2 ^ 31) (h0 : 0 < d) (hd : d < 2 ^ 31) : nI a - nI a / nI d * nI d = nI (a % d) := by
  rw [pk_div ha h0 hd, pk_mul, pk_sub (Nat.div_mul_le_self a d)]
  exact congrArg nI (by have := Nat.div_add_mod' a d; omega)
theorem pk_sub_toInt {a b : Nat} (ha : a < 2 ^ 30) (hb : b < 2 ^ 30) : (nI a - nI b).toInt = (a : Int) - b := by
  rw [Int32.toInt_sub, nI_toInt (by omega), nI_toInt (by omega)]
  exact Int.bmod_eq_of_le (by omega) (by omega)
theorem pk_sneg {a b : Nat} (hb : b < 2 ^ 30) (h : a < b) : nI a - nI b < 0 := by
  rw [Int32.lt_iff_toInt_lt, pk_sub_toInt (by omega) hb, show (0 : Int32).toInt = 0 from by decide]
  omega
theorem pk_ix (x : Int32) {n : Nat} (hn : n < 2 ^ 31) : x < 0 ∨ nI n ≤ x ∨ ∃ j : Nat, j < n ∧ x = nI j := by
  by_cases h : x < 0
  · exact Or.inl h
  · obtain ⟨j, hj, rfl⟩ := nI_of h
    by_cases h2 : j < n
    · exact Or.inr (Or.inr ⟨j, h2, rfl⟩)
    · exact Or.inr (Or.inl (nI_le (by omega) hj))
theorem pk_le {x y : Int32} {A B : Prop} (a b : Nat) (f : a ≤ b → A) (g : b < a → B) (hx : x = nI a := by rfl) (hy : y = nI b := by rfl) (ha : a < 2 ^ 31 := by omega) (hb : b < 2 ^ 31 := by omega) : (x ≤ y → A) ∧ (¬ x ≤ y → B) := by
  subst hx hy
  rw [nI_leI ha hb]
  exact ⟨f, fun z => g (by omega)⟩
theorem pk_lt {x y : Int32} {A B : Prop} (a b : Nat) (f : a < b → A) (g : b ≤ a → B) (hx : x = nI a := by rfl) (hy : y = nI b := by rfl) (ha : a < 2 ^ 31 := by omega) (hb : b < 2 ^ 31 := by omega) : (x < y → A) ∧ (¬ x < y → B) := by
  subst hx hy
  rw [nI_ltI ha hb]
  exact ⟨f, fun z => g (by omega)⟩
theorem pk_eq {x y : Int32} {A B : Prop} (a b : Nat) (f : a = b → A) (g : a ≠ b → B) (hx : x = nI a := by rfl) (hy : y = nI b := by rfl) (ha : a < 2 ^ 31 := by omega) (hb : b < 2 ^ 31 := by omega) : (x = y → A) ∧ (¬ x = y → B) := by
  subst hx hy
  rw [nI_eq ha hb]
  exact ⟨f, g⟩
theorem pk_in {x : Int32} (n N : Nat) (h : n < N) (hx : x = nI n := by rfl) (hN : N < 2 ^ 31 := by omega) : vp_in x N := by
  subst hx
  exact vp_in_nI h hN
theorem pk_cl {x : Int32} (n : Nat) (hx : x = nI n := by rfl) (h : n < 2 ^ 31 := by omega) : x.toNatClampNeg = n := by
  subst hx
  exact nI_clamp h
theorem pk_tn {n : Nat} (h : n < 2 ^ 32) : (nI n).toBitVec.toNat = n := Nat.mod_eq_of_lt h
theorem pk_and (x : Int32) {m : Int32} (k : Nat) (hm : m.toBitVec.toNat = 2 ^ k - 1) : x &&& m = nI (x.toBitVec.toNat % 2 ^ k) := by
  apply Int32.toBitVec_inj.mp
  apply BitVec.eq_of_toNat_eq
  rw [Int32.toBitVec_and, BitVec.toNat_and, hm, Nat.and_two_pow_sub_one_eq_mod]
  show _ = (BitVec.ofNat 32 _).toNat
  rw [BitVec.toNat_ofNat]
  exact (Nat.mod_eq_of_lt (Nat.lt_of_le_of_lt (Nat.mod_le _ _) x.toBitVec.isLt)).symm
theorem pk_andN {n : Nat} (h : n < 2 ^ 32) {m : Int32} (k : Nat) (hm : m.toBitVec.toNat = 2 ^ k - 1) : nI n &&& m = nI (n % 2 ^ k) := by
  rw [pk_and _ k hm, pk_tn h]
theorem pk_andE (x : Int32) {m : Int32} (k : Nat) (hm : m.toBitVec.toNat = 2 ^ k - 1) : ∃ j : Nat, j < 2 ^ k ∧ x &&& m = nI j := ⟨_, Nat.mod_lt _ (Nat.two_pow_pos k), pk_and x k hm⟩
theorem pk_andIn (x : Int32) {m : Int32} (k : Nat) (hm : m.toBitVec.toNat = 2 ^ k - 1) (hk : k ≤ 30) : vp_in (x &&& m) (2 ^ k) := by
  obtain ⟨j, hj, e⟩ := pk_andE x k hm
  rw [e]
  exact vp_in_nI hj (Nat.lt_of_le_of_lt (Nat.pow_le_pow_right (by decide) hk) (by decide))
theorem pk_shl (a s : Int32) (k : Nat) (hs : (s.toBitVec.smod 32).toNat = k) : (a <<< s).toBitVec.toNat = a.toBitVec.toNat * 2 ^ k % 2 ^ 32 := by
  show (a.toBitVec <<< (s.toBitVec.smod 32).toNat).toNat = _
  rw [hs, BitVec.toNat_shiftLeft, Nat.shiftLeft_eq]
theorem pk_shlN {n : Nat} (s : Int32) (k : Nat) (hs : (s.toBitVec.smod 32).toNat = k) (h : n * 2 ^ k < 2 ^ 32) : nI n <<< s = nI (n * 2 ^ k) := by
  apply Int32.toBitVec_inj.mp
  apply BitVec.eq_of_toNat_eq
  have hn : n < 2 ^ 32 := Nat.lt_of_le_of_lt (Nat.le_mul_of_pos_right n (Nat.two_pow_pos k)) h
  rw [pk_shl _ _ k hs, pk_tn hn, pk_tn h, Nat.mod_eq_of_lt h]
theorem pk_shr (a s : Int32) (k : Nat) (hs : (s.toBitVec.smod 32).toNat = k) : (a >>> s).toInt = a.toInt >>> k := by
  show (a.toBitVec.sshiftRight (s.toBitVec.smod 32).toNat).toInt = _
  rw [hs, BitVec.toInt_sshiftRight]
  rfl
theorem pk_shrN {n : Nat} (h : n < 2 ^ 31) (s : Int32) (k : Nat) (hs : (s.toBitVec.smod 32).toNat = k) : nI n >>> s = nI (n / 2 ^ k) := by
  apply Int32.toInt_inj.mp
  have h2 : n / 2 ^ k ≤ n := Nat.div_le_self _ _
  rw [pk_shr _ _ k hs, nI_toInt h, nI_toInt (by omega), Int.shiftRight_eq_div_pow]
  rfl
theorem pk_ushr (x s : Int32) (k : Nat) (hs : ((s.toUInt32 &&& Int32.toUInt32 31).toBitVec % 32).toNat = k) : (x.toUInt32 >>> (s.toUInt32 &&& Int32.toUInt32 31)).toInt32.toBitVec.toNat = x.toBitVec.toNat / 2 ^ k := by
  have e : (x.toUInt32 >>> (s.toUInt32 &&& Int32.toUInt32 31)).toInt32.toBitVec = x.toBitVec >>> k := by
    rw [← hs]
    exact UInt32.toBitVec_shiftRight _ _
  rw [e, BitVec.toNat_ushiftRight, Nat.shiftRight_eq_div_pow]
theorem pk_ushrN {n : Nat} (hn : n < 2 ^ 32) (s : Int32) (k : Nat) (hs : ((s.toUInt32 &&& Int32.toUInt32 31).toBitVec % 32).toNat = k) : ((nI n).toUInt32 >>> (s.toUInt32 &&& Int32.toUInt32 31)).toInt32 = nI (n / 2 ^ k) := by
  apply Int32.toBitVec_inj.mp
  apply BitVec.eq_of_toNat_eq
  rw [pk_ushr _ s k hs, pk_tn hn, pk_tn (Nat.lt_of_le_of_lt (Nat.div_le_self _ _) hn)]
theorem pk_vb (z : Int32) : vp_nar .byte z.toInt8.toInt32 = z.toInt8.toInt32 := by rw [vp_nar_byte]; simp
theorem pk_vs (z : Int32) : vp_nar .short z.toInt16.toInt32 = z.toInt16.toInt32 := by rw [vp_nar_short]; simp
theorem pk_least (P : Nat → Prop) (h : ∃ k, P k) : ∃ k, P k ∧ ∀ j, j < k → ¬ P j := by
  obtain ⟨k, hk⟩ := h
  induction k using Nat.strongRecOn with
  | ind k ih =>
    by_cases e : ∃ j, j < k ∧ P j
    · obtain ⟨j, hj, pj⟩ := e
      exact ih j hj pj
    · exact ⟨k, hk, fun j hj pj => e ⟨j, hj, pj⟩⟩
theorem ek_if {c d A B : Prop} (e : c ↔ d) (f : d → A) (g : ¬ d → B) : (c → A) ∧ (¬ c → B) :=
  ⟨fun z => f (e.mp z), fun z => g (fun y => z (e.mpr y))⟩
theorem ek_v {α : Sort _} {P : α → Prop} {a b : α} (e : a = b) (h : P b) : P a := e ▸ h
/-! ===== Int32 by its bits: bt x i ===== -/
def bt (x : Int32) (i : Nat) : Bool := x.toBitVec.getLsbD i
theorem b_ext {x y : Int32} (h : ∀ i, i < 32 → bt x i = bt y i) : x = y := Int32.toBitVec_inj.mp (BitVec.eq_of_getLsbD_eq (fun i hi => h i hi))
theorem b_or (x y : Int32) (i : Nat) : bt (x ||| y) i = (bt x i || bt y i) := by unfold bt; rw [Int32.toBitVec_or, BitVec.getLsbD_or]
theorem b_and (x y : Int32) (i : Nat) : bt (x &&& y) i = (bt x i && bt y i) := by unfold bt; rw [Int32.toBitVec_and, BitVec.getLsbD_and]
theorem b_xor (x y : Int32) (i : Nat) : bt (x ^^^ y) i = (bt x i ^^ bt y i) := by unfold bt; rw [Int32.toBitVec_xor, BitVec.getLsbD_xor]
theorem b_big {x : Int32} {i : Nat} (h : 32 ≤ i) : bt x i = false := BitVec.getLsbD_of_ge _ _ h
theorem b_255 (i : Nat) : bt 255 i = decide (i < 8) := by
  rcases Nat.lt_or_ge i 32 with h | h
  · exact (by decide +kernel : ∀ i, i < 32 → bt 255 i = decide (i < 8)) i h
  · rw [b_big h, decide_eq_false (by omega)]
theorem b_65535 (i : Nat) : bt 65535 i = decide (i < 16) := by
  rcases Nat.lt_or_ge i 32 with h | h
  · exact (by decide +kernel : ∀ i, i < 32 → bt 65535 i = decide (i < 16)) i h
  · rw [b_big h, decide_eq_false (by omega)]
theorem b_m1 : ∀ i, i < 32 → bt (-1) i = true := by decide +kernel
theorem b_0 (i : Nat) : bt 0 i = false := BitVec.getLsbD_zero
theorem s_l : ∀ n, n < 32 → ((nI n &&& 31).toBitVec.smod 32).toNat = n := by decide +kernel
theorem s_u : ∀ n, n < 32 → (((nI n).toUInt32 &&& Int32.toUInt32 31).toBitVec % 32).toNat = n := by decide +kernel
theorem b_shl (n : Nat) (hn : n < 32) (x : Int32) {i : Nat} (hi : i < 32) : bt (x <<< (nI n &&& 31)) i = (decide (n ≤ i) && bt x (i - n)) := by
  unfold bt
  rw [Int32.toBitVec_shiftLeft]
  show (x.toBitVec <<< ((nI n &&& 31).toBitVec.smod 32).toNat).getLsbD i = _
  rw [s_l n hn, BitVec.getLsbD_shiftLeft]
  rcases Nat.lt_or_ge i n with h | h
  · simp [h, Nat.not_le.mpr h]
  · simp [hi, h, Nat.not_lt.mpr h]
theorem b_ushr (n : Nat) (hn : n < 32) (x : Int32) (i : Nat) : bt ((x.toUInt32 >>> ((nI n).toUInt32 &&& Int32.toUInt32 31)).toInt32) i = bt x (n + i) := by
  show (x.toUInt32 >>> ((nI n).toUInt32 &&& Int32.toUInt32 31)).toBitVec.getLsbD i = x.toUInt32.toBitVec.getLsbD (n + i)
  rw [UInt32.toBitVec_shiftRight]
  show (x.toUInt32.toBitVec >>> (((nI n).toUInt32 &&& Int32.toUInt32 31).toBitVec % 32).toNat).getLsbD i = _
  rw [s_u n hn, BitVec.getLsbD_ushiftRight]
theorem b_sshr (n : Nat) (hn : n < 32) (x : Int32) {i : Nat} (hi : i < 32) : bt (x >>> (nI n &&& 31)) i = if n + i < 32 then bt x (n + i) else bt x 31 := by
  unfold bt
  rw [Int32.toBitVec_shiftRight]
  show (x.toBitVec.sshiftRight ((nI n &&& 31).toBitVec.smod 32).toNat).getLsbD i = _
  rw [s_l n hn, BitVec.getLsbD_sshiftRight, BitVec.msb_eq_getLsbD_last]
  simp [hi]
/-! ===== Int64 as a set of bits: test, set, clear ===== -/
theorem ts_nf {x : Bool} (h : ¬ x = false) : x = true := by cases x <;> first | rfl | exact absurd rfl h
theorem ts_nt {x : Bool} (h : ¬ x = true) : x = false := by cases x <;> first | rfl | exact absurd rfl h
theorem ts_bit {w : Int64} {s : UInt64} {j : Nat} (hj : j < 64) (hs : s.toNat = j) : ((w.toUInt64 >>> s).toInt64 &&& 1) = 0 ↔ w.toBitVec.getLsbD j = false := by
  have e : (w.toUInt64 >>> s).toInt64.toBitVec = w.toBitVec >>> j := by
    apply BitVec.eq_of_toNat_eq
    show (w.toUInt64 >>> s).toNat = _
    rw [UInt64.toNat_shiftRight, hs, Nat.mod_eq_of_lt hj, BitVec.toNat_ushiftRight]
    rfl
  rw [← Int64.toBitVec_inj, Int64.toBitVec_and, e]
  show w.toBitVec >>> j &&& 1#64 = 0#64 ↔ _
  constructor
  · intro h
    have t := congrArg (fun x => x.getLsbD 0) h
    simpa using t
  · intro h
    apply BitVec.eq_of_getLsbD_eq
    intro i hi
    cases i with
    | zero => simp [h]
    | succ i => simp
/-! ===== lN n to 2^64: shifts, and, or, masks, one bit ===== -/
theorem wb_tb (n : Nat) : (lN n).toBitVec = BitVec.ofNat 64 n := rfl
theorem wb_inj {a b : Int64} (h : a.toBitVec = b.toBitVec) : a = b := Int64.toBitVec_inj.mp h
theorem wb_tn {n : Nat} (h : n < 2 ^ 64) : (lN n).toBitVec.toNat = n := by rw [wb_tb, BitVec.toNat_ofNat, Nat.mod_eq_of_lt h]
theorem wb_of (x : Int64) : ∃ n, n < 2 ^ 64 ∧ x = lN n := ⟨x.toBitVec.toNat, x.toBitVec.isLt, wb_inj (by rw [wb_tb]; simp)⟩
theorem wb_of32 (x : Int32) : ∃ n, n < 2 ^ 32 ∧ x = nI n := ⟨x.toBitVec.toNat, x.toBitVec.isLt, Int32.toBitVec_inj.mp (by show _ = BitVec.ofNat 32 _; simp)⟩
theorem wb_c : ∀ k, k < 64 → ((nI k).toInt64 &&& 63) = lN k := by decide +kernel
theorem wb_cu : ∀ k, k < 64 → ((nI k).toInt64.toUInt64 &&& Int64.toUInt64 63) = UInt64.ofNat k := by decide +kernel
theorem wb_sm : ∀ k, k < 64 → (BitVec.ofNat 64 k).smod 64 = BitVec.ofNat 64 k := by decide +kernel
theorem u_tn {n : Nat} (h : n < 2 ^ 64) : (UInt64.ofNat n).toNat = n := Nat.mod_eq_of_lt h
end
section
/-! base: arrays of naturals, numbers from -1 on, the bits of 'found', occurrences -/
def ar_f (t : Nat → Nat) : Nat → Int32 := fun i => nI (t i)
def mi_p (b : Nat) : Int32 := nI b + (-1)
theorem mi_s (b : Nat) : mi_p (b + 1) = nI b := pk_m1 b
theorem mi_0 : mi_p 0 = -1 := by decide
theorem mi_a (b : Nat) : mi_p b + 1 = nI b := by
  unfold mi_p
  rw [Int32.add_assoc, show (-1 : Int32) + 1 = 0 from rfl, Int32.add_zero]
theorem mi_m (b : Nat) : nI b + (-1) = mi_p b := rfl
theorem mi_neg : mi_p 0 < 0 := by decide
theorem ar_at {t : Nat → Nat} {i : Nat} (h : i < 2 ^ 31) : ar_f t (nI i).toNatClampNeg = nI (t i) := by rw [nI_clamp h]; rfl
theorem ar_0 {t : Nat → Nat} (i : Nat) : ar_f t i = nI (t i) := rfl
def l4_f (t : Nat → Nat) : Prop := ∀ i, t i < 4
theorem l4_eq {t p : Nat → Nat} (ht : l4_f t) (hp : l4_f p) (i j : Nat) : nI (t i) = nI (p j) ↔ t i = p j :=
  nI_eq (Nat.lt_of_lt_of_le (ht i) (by decide)) (Nat.lt_of_lt_of_le (hp j) (by decide))
theorem l4_in {t : Nat → Nat} (ht : l4_f t) (i : Nat) : vp_in (nI (t i)) 4 := vp_in_nI (ht i) (by decide)
theorem l4_cl {t : Nat → Nat} (ht : l4_f t) (i : Nat) : (nI (t i)).toNatClampNeg = t i := nI_clamp (Nat.lt_of_lt_of_le (ht i) (by decide))
theorem bn_c {v : Nat} (h : v < 128) : (nI v).toInt8.toInt32 = nI v := (by decide +kernel : ∀ v, v < 128 → (nI v).toInt8.toInt32 = nI v) v h
theorem bn_v {v : Nat} (h : v < 128) : vp_nar .byte (nI v) = nI v := by rw [vp_nar_byte, bn_c h]
theorem bn_w {v : Nat} (h : v < 128) : vp_nar .byte (nI v).toInt8.toInt32 = nI v := by rw [bn_c h, bn_v h]
theorem bn_m : vp_nar .byte (-1) = -1 := by rw [vp_nar_byte]; decide
theorem l4_v {t : Nat → Nat} (ht : l4_f t) (i : Nat) : vp_nar .byte (nI (t i)) = nI (t i) := bn_v (Nat.lt_of_lt_of_le (ht i) (by decide))
/-- a store of a natural into an array of naturals -/
def un_f (t : Nat → Nat) (k v : Nat) : Nat → Nat := fun j => if j = k then v else t j
theorem un_a (t : Nat → Nat) (k v : Nat) : upd (ar_f t) k (nI v) = ar_f (un_f t k v) := by
  funext j
  unfold upd ar_f un_f
  by_cases h : j = k
  · rw [if_pos h, if_pos h]
  · rw [if_neg h, if_neg h]
theorem un_s (t : Nat → Nat) (k v : Nat) : un_f t k v k = v := if_pos rfl
theorem un_n {t : Nat → Nat} {k v j : Nat} (h : j ≠ k) : un_f t k v j = t j := if_neg h
theorem un_4 {t : Nat → Nat} {k v : Nat} (ht : l4_f t) (hv : v < 4) : l4_f (un_f t k v) := by
  intro j
  unfold un_f
  by_cases h : j = k
  · rw [if_pos h]; exact hv
  · rw [if_neg h]; exact ht j
/-! comparisons with a literal -/
theorem c0_lt {a : Nat} (h : a < 2 ^ 31) : (nI a < 0) ↔ False := ⟨fun z => nI_pos h z, False.elim⟩
theorem c0_le {a : Nat} (h : a < 2 ^ 31) : (0 ≤ nI a) ↔ True := ⟨fun _ => trivial, fun _ => nI_pos' h⟩
theorem c0_el {a : Nat} (h : a < 2 ^ 31) : (nI a ≤ 0) ↔ a = 0 := by rw [← nI_0, nI_leI h (by decide)]; omega
theorem c0_eq {a : Nat} (h : a < 2 ^ 31) : (nI a = 0) ↔ a = 0 := by rw [← nI_0, nI_eq h (by decide)]
theorem c1_lt {a : Nat} (h : a < 2 ^ 31) : (nI a < 1) ↔ a = 0 := by rw [show (1 : Int32) = nI 1 from rfl, nI_ltI h (by decide)]; omega
theorem c4_le {a : Nat} (h : a < 2 ^ 31) : (4 ≤ nI a) ↔ 4 ≤ a := by rw [show (4 : Int32) = nI 4 from rfl, nI_leI (by decide) h]
theorem c8_le {a : Nat} (h : a < 2 ^ 31) : (8 ≤ nI a) ↔ 8 ≤ a := by rw [show (8 : Int32) = nI 8 from rfl, nI_leI (by decide) h]
theorem c8_lt {a : Nat} (h : a < 2 ^ 31) : (8 < nI a) ↔ 8 < a := by rw [show (8 : Int32) = nI 8 from rfl, nI_ltI (by decide) h]
theorem c10_le {a : Nat} (h : a < 2 ^ 31) : (10 ≤ nI a) ↔ 10 ≤ a := by rw [show (10 : Int32) = nI 10 from rfl, nI_leI (by decide) h]
theorem c9_lt {a : Nat} (h : a < 2 ^ 31) : (9 < nI a) ↔ 9 < a := by rw [show (9 : Int32) = nI 9 from rfl, nI_ltI (by decide) h]
theorem c3_lt {a : Nat} (h : a < 2 ^ 31) : (3 < nI a) ↔ 3 < a := by rw [show (3 : Int32) = nI 3 from rfl, nI_ltI (by decide) h]
theorem c3_le {a : Nat} (h : a < 2 ^ 31) : (nI a ≤ 3) ↔ a ≤ 3 := by rw [show (3 : Int32) = nI 3 from rfl, nI_leI h (by decide)]
theorem c12_lt {a : Nat} (h : a < 2 ^ 31) : (nI a < 12) ↔ a < 12 := by rw [show (12 : Int32) = nI 12 from rfl, nI_ltI h (by decide)]
theorem c12_tl {a : Nat} (h : a < 2 ^ 31) : (12 < nI a) ↔ 12 < a := by rw [show (12 : Int32) = nI 12 from rfl, nI_ltI (by decide) h]
theorem c60_le {a : Nat} (h : a < 2 ^ 31) : (nI a ≤ 60) ↔ a ≤ 60 := by rw [show (60 : Int32) = nI 60 from rfl, nI_leI h (by decide)]
theorem c60_lt {a : Nat} (h : a < 2 ^ 31) : (60 < nI a) ↔ 60 < a := by rw [show (60 : Int32) = nI 60 from rfl, nI_ltI (by decide) h]
theorem s1_n {a : Nat} (h : 1 ≤ a) : nI a - 1 = nI (a - 1) := pk_sub (b := 1) h
theorem s2_n {a : Nat} (h : 2 ≤ a) : nI a - 2 = nI (a - 2) := pk_sub (b := 2) h
theorem in_n {a N : Nat} (h : a < N) (hN : N < 2 ^ 31) : vp_in (nI a) N ↔ True := ⟨fun _ => trivial, fun _ => vp_in_nI h hN⟩
theorem in_l {t : Nat → Nat} (ht : l4_f t) (i : Nat) : vp_in (nI (t i)) 4 ↔ True := ⟨fun _ => trivial, fun _ => l4_in ht i⟩
/-! the bits of a long -/
def fb_t (x : Int64) (j : Nat) : Bool := x.toBitVec.getLsbD j
theorem fb_ext {x y : Int64} (h : ∀ j, j < 64 → fb_t x j = fb_t y j) : x = y := wb_inj (BitVec.eq_of_getLsbD_eq (fun i hi => h i hi))
theorem fb_or (x y : Int64) (j : Nat) : fb_t (x ||| y) j = (fb_t x j || fb_t y j) := by unfold fb_t; rw [Int64.toBitVec_or, BitVec.getLsbD_or]
theorem fb_and (x y : Int64) (j : Nat) : fb_t (x &&& y) j = (fb_t x j && fb_t y j) := by unfold fb_t; rw [Int64.toBitVec_and, BitVec.getLsbD_and]
theorem fb_xor (x y : Int64) (j : Nat) : fb_t (x ^^^ y) j = (fb_t x j ^^ fb_t y j) := by unfold fb_t; rw [Int64.toBitVec_xor, BitVec.getLsbD_xor]
theorem fb_0 (j : Nat) : fb_t 0 j = false := BitVec.getLsbD_zero
theorem fb_1 : ∀ i, i < 64 → ((1 : Int64) <<< ((nI i).toInt64 &&& 63)).toBitVec = BitVec.twoPow 64 i := by decide +kernel
theorem fb_s {i : Nat} (hi : i < 64) (j : Nat) : fb_t ((1 : Int64) <<< ((nI i).toInt64 &&& 63)) j = decide (i = j) := by
  unfold fb_t
  rw [fb_1 i hi, BitVec.getLsbD_twoPow]
  simp [hi]
theorem fb_is {x : Int64} {i : Nat} (hi : i < 64) : (((x.toUInt64 >>> ((nI i).toInt64.toUInt64 &&& Int64.toUInt64 63)).toInt64) &&& 1) = 0 ↔ fb_t x i = false :=
  ts_bit hi (by rw [wb_cu i hi]; exact u_tn (by omega))
/-! occurrences, and what 'found' holds of them -/
def oc_c (t p : Nat → Nat) (n m j : Nat) : Prop := j + m ≤ n ∧ ∀ k, k < m → t (j + k) = p k
def oc_B (t p : Nat → Nat) (n m J : Nat) (fd : Int64) : Prop := ∀ j, j < 64 → (fb_t fd j = true ↔ (oc_c t p n m j ∧ j < J))
def oc_E (t p : Nat → Nat) (n m i : Nat) (fd : Int64) : Prop := ∀ j, j < 64 → (fb_t fd j = true ↔ (oc_c t p n m j ∧ j + m ≤ i))
def oc_A (t p : Nat → Nat) (n m : Nat) (fd : Int64) : Prop := ∀ j, j < 64 → (fb_t fd j = true ↔ oc_c t p n m j)
section
variable {t p : Nat → Nat} {n m : Nat} {fd : Int64}
theorem oc_A1 {fd' : Int64} (h : oc_A t p n m fd) (h' : oc_A t p n m fd') : fd = fd' := by
  apply fb_ext
  intro j hj
  have a := h j hj
  have b := h' j hj
  cases e : fb_t fd j <;> cases e' : fb_t fd' j <;> rw [e] at a <;> rw [e'] at b <;> simp_all
theorem oc_B0 : oc_B t p n m 0 0 := by
  intro j _
  rw [fb_0]
  exact ⟨fun z => (by cases z), fun z => absurd z.2 (Nat.not_lt_zero j)⟩
theorem oc_skip {J J' : Nat} (h : oc_B t p n m J fd) (hJ : J ≤ J') (hno : ∀ j, J ≤ j → j < J' → ¬ oc_c t p n m j) : oc_B t p n m J' fd := by
  intro j hj
  rw [h j hj]
  constructor
  · exact fun z => ⟨z.1, by omega⟩
  · intro z
    refine ⟨z.1, ?_⟩
    rcases Nat.lt_or_ge j J with g | g
    · exact g
    · exact absurd z.1 (hno j g z.2)
theorem oc_set {J : Nat} (h : oc_B t p n m J fd) (hJ : J < 64) (ho : oc_c t p n m J) : oc_B t p n m (J + 1) (fd ||| ((1 : Int64) <<< ((nI J).toInt64 &&& 63))) := by
  intro j hj
  rw [fb_or, fb_s hJ, Bool.or_eq_true, h j hj, decide_eq_true_eq]
  constructor
  · rintro (z | z)
    · exact ⟨z.1, by omega⟩
    · subst z; exact ⟨ho, by omega⟩
  · intro z
    rcases Nat.lt_or_ge j J with g | g
    · exact Or.inl ⟨z.1, g⟩
    · exact Or.inr (by omega)
theorem oc_mark {J J' : Nat} (h : oc_B t p n m J fd) (hJ : J < 64) (ho : oc_c t p n m J) (hJ' : J < J') (hno : ∀ j, J < j → j < J' → ¬ oc_c t p n m j) :
    oc_B t p n m J' (fd ||| ((1 : Int64) <<< ((nI J).toInt64 &&& 63))) :=
  oc_skip (oc_set h hJ ho) hJ' hno
theorem oc_end {J : Nat} (h : oc_B t p n m J fd) (hJ : n < J + m) : oc_A t p n m fd := by
  intro j hj
  rw [h j hj]
  exact ⟨fun z => z.1, fun z => ⟨z, by have := z.1; omega⟩⟩
theorem oc_E0 (hm : 1 ≤ m) : oc_E t p n m 0 0 := by
  intro j _
  rw [fb_0]
  exact ⟨fun z => (by cases z), fun z => absurd z.2 (by omega)⟩
theorem oc_En {i : Nat} (h : oc_E t p n m i fd) (hno : ∀ j, j + m = i + 1 → ¬ oc_c t p n m j) : oc_E t p n m (i + 1) fd := by
  intro j hj
  rw [h j hj]
  constructor
  · exact fun z => ⟨z.1, by omega⟩
  · intro z
    refine ⟨z.1, ?_⟩
    rcases Nat.lt_or_ge i (j + m) with g | g
    · exact absurd z.1 (hno j (by omega))
    · exact g
theorem oc_Em {i : Nat} (h : oc_E t p n m i fd) (hm : m ≤ i + 1) (hi : i < 64) (hm1 : 1 ≤ m) (ho : oc_c t p n m (i + 1 - m)) :
    oc_E t p n m (i + 1) (fd ||| ((1 : Int64) <<< ((nI (i + 1 - m)).toInt64 &&& 63))) := by
  intro j hj
  rw [fb_or, fb_s (by omega), Bool.or_eq_true, h j hj, decide_eq_true_eq]
  constructor
  · rintro (z | z)
    · exact ⟨z.1, by omega⟩
    · subst z; exact ⟨ho, by omega⟩
  · intro z
    rcases Nat.lt_or_ge i (j + m) with g | g
    · exact Or.inr (by omega)
    · exact Or.inl ⟨z.1, g⟩
theorem oc_Ee (h : oc_E t p n m n fd) : oc_A t p n m fd := by
  intro j hj
  rw [h j hj]
  exact ⟨fun z => z.1, fun z => ⟨z, z.1⟩⟩
end
/-! what is asked of an engine: it ends in a state with the same text and pattern, and 'found' right -/
def eg_P (post : SX → Prop) (n m : Nat) (t p : Nat → Nat) (Q : Int64 → Prop) : Prop :=
  ∀ (fd : Int64) (cp cq : Int32) (bo jo be sk su sh ma st so ra nr : Nat → Int32), Q fd → post ((nI n), (nI m), fd, cp, cq, (ar_f t), (ar_f p), bo, jo, be, sk, su, sh, ma, st, so, ra, nr)
def ok_s (n m : Nat) (t p : Nat → Nat) : Prop := n ≤ 60 ∧ m ≤ 12 ∧ l4_f t ∧ l4_f p
end
section
/-! prefixes of the pattern that end at a place: borders, the automaton, shift-and -/
def kb_S (t p : Nat → Nat) (i k : Nat) : Prop := k ≤ i ∧ ∀ q, q < k → t (i - k + q) = p q
theorem kb_0 {t p : Nat → Nat} {i : Nat} : kb_S t p i 0 := ⟨Nat.zero_le i, fun q h => absurd h (Nat.not_lt_zero q)⟩
theorem kb_r {p : Nat → Nat} {i : Nat} : kb_S p p i i := ⟨Nat.le_refl i, fun q _ => congrArg p (by omega)⟩
theorem kb_s {t p : Nat → Nat} {i k : Nat} : kb_S t p (i + 1) (k + 1) ↔ (kb_S t p i k ∧ t i = p k) := by
  constructor
  · rintro ⟨h, g⟩
    refine ⟨⟨by omega, fun q hq => ?_⟩, ?_⟩
    · have := g q (by omega)
      rw [← this]
      exact congrArg t (by omega)
    · have := g k (by omega)
      rw [← this]
      exact congrArg t (by omega)
  · rintro ⟨⟨h, g⟩, e⟩
    refine ⟨by omega, fun q hq => ?_⟩
    rcases Nat.lt_or_ge q k with z | z
    · rw [← g q z]
      exact congrArg t (by omega)
    · have : q = k := by omega
      subst this
      rw [← e]
      exact congrArg t (by omega)
theorem kb_sub {t p : Nat → Nat} {i b k : Nat} (hb : kb_S t p i b) (hk : kb_S t p i k) (h : k ≤ b) : kb_S p p b k := by
  refine ⟨h, fun q hq => ?_⟩
  rw [← hk.2 q hq, ← hb.2 (b - k + q) (by omega)]
  exact congrArg t (by have := hb.1; omega)
theorem kb_comp {t p : Nat → Nat} {i b k : Nat} (hb : kb_S t p i b) (hk : kb_S p p b k) : kb_S t p i k := by
  refine ⟨Nat.le_trans hk.1 hb.1, fun q hq => ?_⟩
  have h1 := hb.1
  have h2 := hk.1
  rw [← hk.2 q hq, ← hb.2 (b - k + q) (by omega)]
  exact congrArg t (by omega)
theorem kb_oc {t p : Nat → Nat} {n m i : Nat} (hi : i + 1 ≤ n) (h : kb_S t p (i + 1) m) : oc_c t p n m (i + 1 - m) := by
  refine ⟨by have := h.1; omega, fun k hk => ?_⟩
  exact h.2 k hk
theorem kb_no {t p : Nat → Nat} {n m i : Nat} (h : ¬ kb_S t p (i + 1) m) : ∀ j, j + m = i + 1 → ¬ oc_c t p n m j := by
  intro j hj ho
  apply h
  refine ⟨by omega, fun q hq => ?_⟩
  rw [← ho.2 q hq]
  exact congrArg t (by omega)
/-- b is the longest proper border of the first k letters -/
def kb_B (p : Nat → Nat) (k b : Nat) : Prop := b < k ∧ kb_S p p k b ∧ ∀ c, c < k → kb_S p p k c → c ≤ b
theorem kb_B1 {p : Nat → Nat} : kb_B p 1 0 := ⟨by omega, kb_0, fun c hc _ => by omega⟩
theorem kb_Bu {p : Nat → Nat} {k b c : Nat} (hb : kb_B p k b) (hc : kb_B p k c) : b = c := by
  have h1 := hb.2.2 c hc.1 hc.2.1
  have h2 := hc.2.2 b hb.1 hb.2.1
  omega
/-- the table of borders, up to i -/
def kb_A (p : Nat → Nat) (bo : Nat → Int32) (i : Nat) : Prop := bo 0 = mi_p 0 ∧ ∀ k, 1 ≤ k → k ≤ i → ∃ c, bo k = nI c ∧ kb_B p k c
theorem kb_A_up {p : Nat → Nat} {bo : Nat → Int32} {i b : Nat} (h : kb_A p bo i) (hb : kb_B p (i + 1) b) : kb_A p (upd bo (i + 1) (nI b)) (i + 1) := by
  refine ⟨?_, fun k h1 h2 => ?_⟩
  · rw [pk_un (by omega)]; exact h.1
  · rcases Nat.lt_or_ge i k with g | g
    · have : k = i + 1 := by omega
      subst this
      exact ⟨b, pk_us, hb⟩
    · rw [pk_un (by omega)]
      exact h.2 k h1 g
/-- while a letter is tried: b' is one more than the border that is tried next, or 0; candidates are below M -/
def kb_I (t p : Nat → Nat) (i M b' : Nat) : Prop := (∀ k, k < M → kb_S t p i k → t i = p k → k < b') ∧ (∀ b, b' = b + 1 → kb_S t p i b)
theorem kb_I_down {t p : Nat → Nat} {i M b : Nat} {bo : Nat → Int32} {w : Nat} (hI : kb_I t p i M (b + 1)) (hno : b < M → t i ≠ p b) (hA : kb_A p bo w) (hw : b ≤ w) :
    ∃ b'', bo b = mi_p b'' ∧ b'' ≤ b ∧ kb_I t p i M b'' := by
  have hS := hI.2 b rfl
  rcases Nat.eq_zero_or_pos b with z | z
  · subst z
    refine ⟨0, hA.1, Nat.le_refl 0, fun k hk hs he => ?_, fun b hb => by omega⟩
    have := hI.1 k hk hs he
    have : k = 0 := by omega
    subst this
    exact absurd he (hno hk)
  · obtain ⟨c, hc, hB⟩ := hA.2 b z hw
    refine ⟨c + 1, by rw [hc, mi_s], hB.1, fun k hk hs he => ?_, fun d hd => ?_⟩
    · have h1 := hI.1 k hk hs he
      have h2 : k ≠ b := fun e => hno (e ▸ hk) (e ▸ he)
      have := hB.2.2 k (by omega) (kb_sub hS hs (by omega))
      omega
    · have : d = c := by omega
      subst this
      exact kb_comp hS hB.2.1
/-- a letter fits, or nothing is left: the new count -/
theorem kb_I_end {t p : Nat → Nat} {i M b' : Nat} (hI : kb_I t p i M b') (he : ∀ b, b' = b + 1 → t i = p b) : kb_S t p (i + 1) b' ∧ ∀ k, k ≤ M → kb_S t p (i + 1) k → k ≤ b' := by
  constructor
  · cases b' with
    | zero => exact kb_0
    | succ b => exact kb_s.mpr ⟨hI.2 b rfl, he b rfl⟩
  · intro k hk hs
    cases k with
    | zero => exact Nat.zero_le _
    | succ k =>
      have := kb_s.mp hs
      exact hI.1 k hk this.1 this.2
/-- the state of the search: the longest prefix of the pattern that ends here -/
def kb_M (t p : Nat → Nat) (m i b : Nat) : Prop := b ≤ m ∧ kb_S t p i b ∧ ∀ k, k ≤ m → kb_S t p i k → k ≤ b
theorem kb_M0 {t p : Nat → Nat} {m : Nat} : kb_M t p m 0 0 := ⟨Nat.zero_le m, kb_0, fun k _ h => h.1⟩
theorem kb_M_I {t p : Nat → Nat} {m i b : Nat} (h : kb_M t p m i b) : kb_I t p i m (b + 1) := by
  refine ⟨fun k hk hs _ => Nat.lt_succ_of_le (h.2.2 k (Nat.le_of_lt hk) hs), fun c hc => ?_⟩
  have : c = b := by omega
  subst this
  exact h.2.1
theorem kb_M_end {t p : Nat → Nat} {m i b' : Nat} (hI : kb_I t p i m b') (hb : b' ≤ m) (he : ∀ b, b' = b + 1 → t i = p b) : kb_M t p m (i + 1) b' :=
  ⟨hb, (kb_I_end hI he).1, (kb_I_end hI he).2⟩
theorem kb_M_oc {t p : Nat → Nat} {n m i : Nat} (hi : i + 1 ≤ n) (h : kb_M t p m (i + 1) m) : oc_c t p n m (i + 1 - m) := kb_oc hi h.2.1
theorem kb_M_no {t p : Nat → Nat} {n m i b : Nat} (h : kb_M t p m (i + 1) b) (hb : b ≠ m) : ∀ j, j + m = i + 1 → ¬ oc_c t p n m j :=
  kb_no (fun hs => hb (by have := h.2.2 m (Nat.le_refl m) hs; have := h.1; omega))
/-- borders: what the loop keeps at i, b' = 0 at the first letter, else one more than the border -/
def kb_R (p : Nat → Nat) (i b' : Nat) : Prop := (i = 0 ∧ b' = 0) ∨ (∃ b, b' = b + 1 ∧ kb_B p i b)
theorem kb_R_I {p : Nat → Nat} {i b' : Nat} (h : kb_R p i b') : kb_I p p i i b' ∧ b' ≤ i := by
  rcases h with ⟨rfl, rfl⟩ | ⟨b, rfl, hB⟩
  · exact ⟨⟨fun k hk => absurd hk (Nat.not_lt_zero k), fun b hb => by omega⟩, Nat.le_refl 0⟩
  · refine ⟨⟨fun k hk hs _ => Nat.lt_succ_of_le (hB.2.2 k hk hs), fun c hc => ?_⟩, hB.1⟩
    have : c = b := by omega
    subst this
    exact hB.2.1
theorem kb_R_end {p : Nat → Nat} {i b' : Nat} (hI : kb_I p p i i b') (hb : b' ≤ i) (he : ∀ b, b' = b + 1 → p i = p b) : kb_B p (i + 1) b' := by
  refine ⟨by omega, (kb_I_end hI he).1, fun c hc hs => (kb_I_end hI he).2 c (by omega) hs⟩
/-! the table of states: d is the longest prefix that ends behind the first s letters and c -/
def kd_D (p : Nat → Nat) (m s c d : Nat) : Prop := d ≤ m ∧ (∀ k, d = k + 1 → kb_S p p s k ∧ p k = c) ∧ ∀ k, k < m → kb_S p p s k → p k = c → k + 1 ≤ d
theorem kd_0y {p : Nat → Nat} {m c : Nat} (hm : 1 ≤ m) (h : c = p 0) : kd_D p m 0 c 1 := by
  refine ⟨hm, fun k hk => ?_, fun k _ hs _ => ?_⟩
  · have : k = 0 := by omega
    subst this
    exact ⟨kb_0, h.symm⟩
  · have := hs.1; omega
theorem kd_0n {p : Nat → Nat} {m c : Nat} (h : c ≠ p 0) : kd_D p m 0 c 0 := by
  refine ⟨Nat.zero_le m, fun k hk => by omega, fun k _ hs he => ?_⟩
  have : k = 0 := by have := hs.1; omega
  subst this
  exact absurd he.symm h
theorem kd_y {p : Nat → Nat} {m s c : Nat} (hs : s < m) (h : c = p s) : kd_D p m s c (s + 1) := by
  refine ⟨hs, fun k hk => ?_, fun k _ hk _ => Nat.succ_le_succ hk.1⟩
  have : k = s := by omega
  subst this
  exact ⟨kb_r, h.symm⟩
theorem kd_n {p : Nat → Nat} {m s c b d : Nat} (hsm : s ≤ m) (h : s < m → c ≠ p s) (hB : kb_B p s b) (hd : kd_D p m b c d) : kd_D p m s c d := by
  refine ⟨hd.1, fun k hk => ?_, fun k hk hs he => ?_⟩
  · exact ⟨kb_comp hB.2.1 (hd.2.1 k hk).1, (hd.2.1 k hk).2⟩
  · have h1 : k ≠ s := fun e => h (e ▸ hk) (e ▸ he.symm)
    have h2 := hs.1
    exact hd.2.2 k hk (kb_sub hB.2.1 hs (hB.2.2 k (by omega) hs)) he
theorem kd_b {p : Nat → Nat} {m s b d : Nat} (hsm : s < m) (hB : kb_B p s b) (hd : kd_D p m b (p s) d) : kb_B p (s + 1) d := by
  refine ⟨?_, ?_, fun c hc hs => ?_⟩
  · cases d with
    | zero => omega
    | succ k => have := (hd.2.1 k rfl).1.1; have := hB.1; omega
  · cases d with
    | zero => exact kb_0
    | succ k => exact kb_s.mpr ⟨kb_comp hB.2.1 (hd.2.1 k rfl).1, (hd.2.1 k rfl).2.symm⟩
  · cases c with
    | zero => exact Nat.zero_le _
    | succ k =>
      have h := kb_s.mp hs
      exact hd.2.2 k (by omega) (kb_sub hB.2.1 h.1 (hB.2.2 k (by omega) h.1)) h.2.symm
theorem kd_M {t p : Nat → Nat} {m i b d : Nat} (h : kb_M t p m i b) (hd : kd_D p m b (t i) d) : kb_M t p m (i + 1) d := by
  refine ⟨hd.1, ?_, fun k hk hs => ?_⟩
  · cases d with
    | zero => exact kb_0
    | succ k => exact kb_s.mpr ⟨kb_comp h.2.1 (hd.2.1 k rfl).1, (hd.2.1 k rfl).2.symm⟩
  · cases k with
    | zero => exact Nat.zero_le _
    | succ k =>
      have g := kb_s.mp hs
      exact hd.2.2 k hk (kb_sub h.2.1 g.1 (h.2.2 k (by omega) g.1)) g.2.symm
end
section
/-! what each place has in common with the beginning (z), and common endings (BM) -/
/-- z is the number of letters in common of s and s from i on, within L -/
def zd_L (s : Nat → Nat) (L i z : Nat) : Prop := i + z ≤ L ∧ (∀ q, q < z → s q = s (i + q)) ∧ (i + z < L → s z ≠ s (i + z))
/-- the box: from left on to right it is as the beginning -/
def zd_B (s : Nat → Nat) (L i l r : Nat) : Prop := r ≤ L ∧ l < i ∧ (i < r → 1 ≤ l) ∧ ∀ q, l + q < r → s q = s (l + q)
theorem zd_B0 {s : Nat → Nat} {L : Nat} : zd_B s L 1 0 0 := ⟨Nat.zero_le L, by omega, fun h => by omega, fun q h => by omega⟩
theorem zd_Bs {s : Nat → Nat} {L i l r : Nat} (h : zd_B s L i l r) : zd_B s L (i + 1) l r := ⟨h.1, by have := h.2.1; omega, fun g => h.2.2.1 (by omega), h.2.2.2⟩
theorem zd_Bn {s : Nat → Nat} {L i z : Nat} (hi : 1 ≤ i) (h : zd_L s L i z) : zd_B s L (i + 1) i (i + z) := ⟨h.1, by omega, fun _ => hi, fun q hq => h.2.1 q (by omega)⟩
theorem zd_ini {s : Nat → Nat} {L i l r k z : Nat} (h : zd_B s L i l r) (hr : i < r) (hk : zd_L s L (i - l) k) (hz : z ≤ k) (hz2 : z ≤ r - i) : i + z ≤ L ∧ ∀ q, q < z → s q = s (i + q) := by
  have h1 := h.1
  have h2 := h.2.1
  refine ⟨by omega, fun q hq => ?_⟩
  rw [hk.2.1 q (by omega), h.2.2.2 (i - l + q) (by omega)]
  exact congrArg s (by omega)
/-- the joined list: pattern, 4, text -/
def zd_J (t p : Nat → Nat) (m : Nat) : Nat → Nat := fun i => if i < m then p i else if i = m then 4 else t (i - (m + 1))
theorem zd_Jp {t p : Nat → Nat} {m i : Nat} (h : i < m) : zd_J t p m i = p i := if_pos h
theorem zd_Jm {t p : Nat → Nat} {m : Nat} : zd_J t p m m = 4 := by unfold zd_J; rw [if_neg (by omega), if_pos rfl]
theorem zd_Jt {t p : Nat → Nat} {m i : Nat} : zd_J t p m (m + 1 + i) = t i := by
  unfold zd_J
  rw [if_neg (by omega), if_neg (by omega)]
  exact congrArg t (by omega)
theorem zd_J5 {t p : Nat → Nat} {m : Nat} (ht : l4_f t) (hp : l4_f p) (i : Nat) : zd_J t p m i < 5 := by
  unfold zd_J
  split
  · have := hp i; omega
  · split
    · omega
    · have := ht (i - (m + 1)); omega
/-- what the text from i on has in common with the pattern -/
def zd_C (t p : Nat → Nat) (n m i z : Nat) : Prop := i + z ≤ n ∧ z ≤ m ∧ (∀ q, q < z → t (i + q) = p q) ∧ (i + z < n → z < m → t (i + z) ≠ p z)
theorem zd_LC {t p : Nat → Nat} {n m i z : Nat} (ht : l4_f t) (h : zd_L (zd_J t p m) (m + 1 + n) (m + 1 + i) z) : zd_C t p n m i z := by
  have h1 := h.1
  have hz : z ≤ m := by
    rcases Nat.lt_or_ge m z with g | g
    · have e := h.2.1 m g
      rw [zd_Jm, Nat.add_assoc (m + 1) i m, zd_Jt] at e
      have := ht (i + m)
      omega
    · exact g
  refine ⟨by omega, hz, fun q hq => ?_, fun hn hm => ?_⟩
  · have e := h.2.1 q hq
    rw [zd_Jp (by omega), Nat.add_assoc (m + 1) i q, zd_Jt] at e
    exact e.symm
  · have e := h.2.2 (by omega)
    rw [zd_Jp hm, Nat.add_assoc (m + 1) i z, zd_Jt] at e
    exact fun g => e g.symm
theorem zd_Cu {t p : Nat → Nat} {n m i z z' : Nat} (h : zd_C t p n m i z) (h' : zd_C t p n m i z') : z = z' := by
  obtain ⟨a1, a2, a3, a4⟩ := h
  obtain ⟨b1, b2, b3, b4⟩ := h'
  rcases Nat.lt_trichotomy z z' with g | g | g
  · exact absurd (b3 z g) (a4 (by omega) (by omega))
  · exact g
  · exact absurd (a3 z' g) (b4 (by omega) (by omega))
theorem zd_Coc {t p : Nat → Nat} {n m i z : Nat} (hi : i + m ≤ n) (h : zd_C t p n m i z) : z = m ↔ oc_c t p n m i := by
  constructor
  · intro e
    subst e
    exact ⟨hi, fun k hk => h.2.2.1 k hk⟩
  · intro ho
    have h2 := h.2.1
    rcases Nat.lt_or_ge z m with g | g
    · exact absurd (ho.2 z g) (h.2.2.2 (by omega) g)
    · omega
/-! Boyer and Moore: k letters that end at i are the last ones of the pattern -/
def bm_S (p : Nat → Nat) (m i k : Nat) : Prop := k ≤ i + 1 ∧ (∀ q, q < k → p (i - q) = p (m - 1 - q)) ∧ (k < i + 1 → p (i - k) ≠ p (m - 1 - k))
theorem bm_last {p : Nat → Nat} {m : Nat} (hm : 1 ≤ m) : bm_S p m (m - 1) m := ⟨by omega, fun q _ => rfl, fun h => by omega⟩
/-- the box behind g up to f (g is shifted by one: g = place + 1) -/
def bm_G (p : Nat → Nat) (m i g f : Nat) : Prop := i ≤ f ∧ f ≤ m - 1 ∧ g ≤ f + 1 ∧ ∀ q, q < f + 1 - g → p (f - q) = p (m - 1 - q)
/-- the copied case -/
theorem bm_copy {p : Nat → Nat} {m i g f k : Nat} (hG : bm_G p m (i + 1) g f) (hi : g ≤ i) (hS : bm_S p m (i + (m - 1) - f) k) (hk : k < i + 1 - g) (hm : i + 1 < m) : bm_S p m i k := by
  obtain ⟨g1, g2, g3, g4⟩ := hG
  have e : ∀ q, q ≤ k → p (i - q) = p (i + (m - 1) - f - q) := by
    intro q hq
    have := g4 (f - i + q) (by omega)
    rw [show f - (f - i + q) = i - q by omega] at this
    rw [this]
    exact congrArg p (by omega)
  refine ⟨by omega, fun q hq => ?_, fun h => ?_⟩
  · rw [e q (by omega)]
    exact hS.2.1 q hq
  · rw [e k (Nat.le_refl k)]
    exact hS.2.2 (by omega)
/-- the case that is compared on: what is known at its start -/
theorem bm_ini {p : Nat → Nat} {m i g f k : Nat} (hG : bm_G p m (i + 1) g f) (hi : g ≤ i) (hS : bm_S p m (i + (m - 1) - f) k) (hk : i + 1 - g ≤ k) (hm : i + 1 < m) : bm_G p m i g i := by
  obtain ⟨g1, g2, g3, g4⟩ := hG
  refine ⟨Nat.le_refl i, by omega, by omega, fun q hq => ?_⟩
  have h1 := g4 (f - i + q) (by omega)
  rw [show f - (f - i + q) = i - q by omega] at h1
  have h2 := hS.2.1 q (by omega)
  rw [h1, ← h2]
  exact congrArg p (by omega)
theorem bm_ini0 {p : Nat → Nat} {m i : Nat} (hm : i + 1 < m) : bm_G p m i (i + 1) i :=
  ⟨Nat.le_refl i, by omega, Nat.le_refl _, fun q hq => by omega⟩
theorem bm_step {p : Nat → Nat} {m i g : Nat} (hG : bm_G p m i (g + 1) i) (h : p g = p (g + (m - 1) - i)) (hm : i + 1 < m) : bm_G p m i g i := by
  obtain ⟨g1, g2, g3, g4⟩ := hG
  refine ⟨g1, g2, by omega, fun q hq => ?_⟩
  rcases Nat.lt_or_ge q (i + 1 - (g + 1)) with z | z
  · exact g4 q z
  · have : q = i - g := by omega
    subst this
    rw [show i - (i - g) = g by omega, h]
    exact congrArg p (by omega)
theorem bm_stop {p : Nat → Nat} {m i g : Nat} (hG : bm_G p m i g i) (h : ∀ j, g = j + 1 → p j ≠ p (j + (m - 1) - i)) (hm : i + 1 < m) : bm_S p m i (i + 1 - g) := by
  obtain ⟨g1, g2, g3, g4⟩ := hG
  refine ⟨by omega, g4, fun z => ?_⟩
  have := h (g - 1) (by omega)
  rw [show i - (i + 1 - g) = g - 1 by omega, show m - 1 - (i + 1 - g) = g - 1 + (m - 1) - i by omega]
  exact this
theorem bm_Gs {p : Nat → Nat} {m i g f : Nat} (h : bm_G p m (i + 1) g f) : bm_G p m i g f := ⟨by have := h.1; omega, h.2.1, h.2.2.1, h.2.2.2⟩
/-- what a shift s asks of the pattern when the letters behind i fit, and that at i doesn't -/
def bm_C (p : Nat → Nat) (m i s : Nat) : Prop := (∀ q, i < q → q < m → s ≤ q → p (q - s) = p q) ∧ (s ≤ i → p (i - s) ≠ p i)
/-- a period of the pattern -/
def bm_P (p : Nat → Nat) (m s : Nat) : Prop := ∀ q, q < m → s ≤ q → p (q - s) = p q
theorem bm_C0 {p : Nat → Nat} {m s : Nat} (hs : 1 ≤ s) (h : bm_P p m s) : bm_C p m 0 s := ⟨fun q _ hq hs => h q hq hs, fun g => by omega⟩
/-- the good shift at i: no shift below it is possible -/
def bm_T (p : Nat → Nat) (m i d : Nat) : Prop := 1 ≤ d ∧ d ≤ m ∧ ∀ s, 1 ≤ s → s < d → ¬ bm_C p m i s
/-- phase 2: the shifts by periods, places down to I are done (I itself is not) -/
def bm_H (p : Nat → Nat) (m I J : Nat) (h : Nat → Nat) : Prop :=
  J ≤ m - I ∧ (∀ j, j < m → 1 ≤ h j ∧ h j ≤ m ∧ j < h j) ∧ (∀ j, j < J → h j ≤ m - I) ∧ (∀ j, J ≤ j → j < m → h j = m) ∧ ∀ s, 1 ≤ s → s + I ≤ m - 1 → bm_P p m s → ∀ j, j < s → h j ≤ s
theorem bm_per {p : Nat → Nat} {m s : Nat} (hs : s + 1 ≤ m) (h : bm_P p m s) {k : Nat} (hk : bm_S p m (m - 1 - s) k) : k = m - 1 - s + 1 := by
  have h1 := hk.1
  rcases Nat.lt_or_ge k (m - 1 - s + 1) with g | g
  · have := hk.2.2 g
    have e := h (m - 1 - k) (by omega) (by omega)
    exact absurd (by rw [← e]; exact congrArg p (by omega)) this
  · omega
theorem bm_per' {p : Nat → Nat} {m i k : Nat} (hi : i < m) (hS : bm_S p m i k) (hk : k = i + 1) : bm_P p m (m - 1 - i) := by
  intro q hq hs
  have := hS.2.1 (m - 1 - q) (by omega)
  rw [show m - 1 - (m - 1 - q) = q by omega] at this
  rw [← this]
  exact congrArg p (by omega)
theorem bm_exact {p : Nat → Nat} {m i s k : Nat} (hi : i < m) (hs : s ≤ i) (hC : bm_C p m i s) (hk : bm_S p m (m - 1 - s) k) : k = m - 1 - i := by
  rcases Nat.lt_trichotomy k (m - 1 - i) with g | g | g
  · have h1 := hk.2.2 (by omega)
    have h2 := hC.1 (m - 1 - k) (by omega) (by omega) (by omega)
    exact absurd (by rw [← h2]; exact congrArg p (by omega)) h1
  · exact g
  · have h1 := hk.2.1 (m - 1 - i) g
    have h2 := hC.2 hs
    rw [show m - 1 - s - (m - 1 - i) = i - s by omega, show m - 1 - (m - 1 - i) = i by omega] at h1
    exact absurd h1 h2
end
section
/-! Boyer and Moore, the table of shifts and its use; the tables of skips -/
theorem bm_H0 {p : Nat → Nat} {m : Nat} {h : Nat → Nat} (hh : ∀ j, j < m → h j = m) : bm_H p m m 0 h := by
  refine ⟨Nat.zero_le _, fun j hj => ?_, fun j hj => absurd hj (Nat.not_lt_zero j), fun j _ hj => hh j hj, fun s h1 h2 => by omega⟩
  rw [hh j hj]
  omega
theorem bm_H_step {p : Nat → Nat} {m I J : Nat} {h : Nat → Nat} (H : bm_H p m I J h) (hJ : J < m - I) (hI : 1 ≤ I) : bm_H p m I (J + 1) (un_f h J (m - I)) := by
  obtain ⟨h1, h2, h3, h4, h5⟩ := H
  refine ⟨hJ, fun j hj => ?_, fun j hj => ?_, fun j hj hm => ?_, fun s s1 s2 sP j hj => ?_⟩
  · by_cases e : j = J
    · subst e; rw [un_s]; omega
    · rw [un_n e]; exact h2 j hj
  · by_cases e : j = J
    · subst e; rw [un_s]; omega
    · rw [un_n e]; exact h3 j (by omega)
  · rw [un_n (by omega)]; exact h4 j (by omega) hm
  · by_cases e : j = J
    · subst e
      have a := h5 s s1 s2 sP j hj
      have b := h4 j (Nat.le_refl j) (by omega)
      omega
    · rw [un_n e]; exact h5 s s1 s2 sP j hj
theorem bm_H_y {p : Nat → Nat} {m i J : Nat} {h : Nat → Nat} (H : bm_H p m (i + 1) J h) (hJ : m - 1 - i ≤ J) : bm_H p m i J h := by
  obtain ⟨h1, h2, h3, h4, h5⟩ := H
  refine ⟨by omega, h2, fun j hj => by have := h3 j hj; omega, h4, fun s s1 s2 sP j hj => ?_⟩
  rcases Nat.lt_or_ge (s + i) (m - 1) with g | g
  · exact h5 s s1 (by omega) sP j hj
  · have := h3 j (by omega)
    omega
theorem bm_H_n {p : Nat → Nat} {m i J k : Nat} {h : Nat → Nat} (H : bm_H p m (i + 1) J h) (hi : i < m) (hS : bm_S p m i k) (hk : k ≠ i + 1) : bm_H p m i J h := by
  obtain ⟨h1, h2, h3, h4, h5⟩ := H
  refine ⟨by omega, h2, fun j hj => by have := h3 j hj; omega, h4, fun s s1 s2 sP j hj => ?_⟩
  rcases Nat.lt_or_ge (s + i) (m - 1) with g | g
  · exact h5 s s1 (by omega) sP j hj
  · have e : m - 1 - s = i := by omega
    have := bm_per (k := k) (by omega) sP (by rw [e]; exact hS)
    exact absurd (by omega) hk
/-- phase 3: places below I are done; f is the table of common endings -/
def bm_Q (m I : Nat) (f h2 h : Nat → Nat) : Prop := (∀ j, j < m → 1 ≤ h j ∧ h j ≤ h2 j) ∧ ∀ i, i < I → i + 1 < m → h (m - 1 - f i) ≤ m - 1 - i
theorem bm_Q0 {p : Nat → Nat} {m J : Nat} {f h : Nat → Nat} (H : bm_H p m 0 J h) : bm_Q m 0 f h h :=
  ⟨fun j hj => ⟨(H.2.1 j hj).1, Nat.le_refl _⟩, fun i hi => absurd hi (Nat.not_lt_zero i)⟩
theorem bm_Q_s {p : Nat → Nat} {m I J : Nat} {f h2 h : Nat → Nat} (H : bm_H p m 0 J h2) (Q : bm_Q m I f h2 h) (hI : I + 1 < m) (hf : f I ≤ I + 1) : bm_Q m (I + 1) f h2 (un_f h (m - 1 - f I) (m - 1 - I)) := by
  constructor
  · intro j hj
    by_cases e : j = m - 1 - f I
    · subst e
      rw [un_s]
      have := (H.2.1 (m - 1 - f I) hj).2.2
      omega
    · rw [un_n e]; exact Q.1 j hj
  · intro i hi hm
    by_cases e : m - 1 - f i = m - 1 - f I
    · rw [e, un_s]; omega
    · rw [un_n e]
      have : i ≠ I := fun z => e (by rw [z])
      exact Q.2 i (by omega) hm
theorem bm_Q_T {p : Nat → Nat} {m J : Nat} {f h2 h : Nat → Nat} (H : bm_H p m 0 J h2) (hf : ∀ i, i < m → bm_S p m i (f i)) (Q : bm_Q m (m - 1) f h2 h) {i : Nat} (hi : i < m) : bm_T p m i (h i) := by
  have a := Q.1 i hi
  have b := H.2.1 i hi
  refine ⟨a.1, by omega, fun s s1 s2 hC => ?_⟩
  rcases Nat.lt_or_ge i s with g | g
  · have := H.2.2.2.2 s s1 (by omega) (fun q hq hs => hC.1 q (by omega) hq hs) i g
    omega
  · have e := bm_exact hi g hC (hf (m - 1 - s) (by omega))
    have := Q.2 (m - 1 - s) (by omega) (by omega)
    rw [e, show m - 1 - (m - 1 - i) = i by omega] at this
    omega
section
variable {t p : Nat → Nat} {n m : Nat}
theorem bm_safe {i j s : Nat} (hi : i < m) (hf : ∀ q, i < q → q < m → p q = t (q + j)) (hb : p i ≠ t (i + j)) (ho : oc_c t p n m (j + s)) : bm_C p m i s := by
  refine ⟨fun q q1 q2 q3 => ?_, fun hs => ?_⟩
  · rw [hf q q1 q2, ← ho.2 (q - s) (by omega)]
    exact congrArg t (by omega)
  · rw [← ho.2 (i - s) (by omega), show j + s + (i - s) = i + j by omega]
    exact fun z => hb z.symm
theorem bm_safe0 {j s : Nat} (hf : ∀ q, q < m → p q = t (q + j)) (ho : oc_c t p n m (j + s)) : bm_P p m s := by
  intro q q2 q3
  rw [hf q q2, ← ho.2 (q - s) (by omega)]
  exact congrArg t (by omega)
/-- a table of skips: below I all places are entered; B is one less than the greatest skip -/
def sk_T (p : Nat → Nat) (B I : Nat) (sk : Nat → Int32) : Prop := ∀ c, c < 4 → ∃ d, sk c = nI d ∧ 1 ≤ d ∧ d ≤ B + 1 ∧ ∀ q, q < I → p q = c → d + q ≤ B
theorem sk_0 {B : Nat} {sk : Nat → Int32} (h : ∀ c, c < 4 → sk c = nI (B + 1)) : sk_T p B 0 sk :=
  fun c hc => ⟨B + 1, h c hc, by omega, Nat.le_refl _, fun q hq => absurd hq (Nat.not_lt_zero q)⟩
theorem sk_s {B I : Nat} {sk : Nat → Int32} (h : sk_T p B I sk) (hI : I < B) : sk_T p B (I + 1) (upd sk (p I) (nI (B - I))) := by
  intro c hc
  by_cases e : c = p I
  · subst e
    exact ⟨B - I, pk_us, by omega, by omega, fun q hq _ => by omega⟩
  · obtain ⟨d, h1, h2, h3, h4⟩ := h c hc
    refine ⟨d, by rw [pk_un e]; exact h1, h2, h3, fun q hq hp => ?_⟩
    have : q ≠ I := fun z => e (by rw [← hp, z])
    exact h4 q (by omega) hp
/-- the letter that doesn't fit: no occurrence below the skip -/
theorem bm_bad {i j s c d : Nat} (hm : 1 ≤ m) (hi : i < m) (hd : d ≤ m) (hk : ∀ q, q < m - 1 → p q = c → d + q ≤ m - 1) (hc : c = t (i + j)) (hs : 1 ≤ s) (ho : oc_c t p n m (j + s)) : d + 1 + i ≤ m + s := by
  rcases Nat.lt_or_ge i s with g | g
  · omega
  · have e := ho.2 (i - s) (by omega)
    rw [show j + s + (i - s) = i + j by omega] at e
    have := hk (i - s) (by omega) (by rw [hc, e])
    omega
/-- the letter behind the window: no occurrence below the skip -/
theorem sk_safe {j s c d : Nat} (hk : d ≤ m + 1 ∧ ∀ q, q < m → p q = c → d + q ≤ m) (hc : c = t (j + m)) (hs : 1 ≤ s) (ho : oc_c t p n m (j + s)) : d ≤ s := by
  rcases Nat.lt_or_ge m s with g | g
  · have := hk.1; omega
  · have e := ho.2 (m - s) (by omega)
    rw [show j + s + (m - s) = j + m by omega] at e
    have := hk.2 (m - s) (by omega) (by rw [hc, e])
    omega
end
end
section
/-! two halves: the greatest suffix, its period, and why the shifts are safe -/
section
variable {y : Nat → Nat} {m : Nat}
/-- from a' on it is greater than from a on, by a letter -/
def tw_b (y : Nat → Nat) (m a' a : Nat) : Prop := ∃ l, a + l < m ∧ a' + l < m ∧ (∀ k, k < l → y (a + k) = y (a' + k)) ∧ y (a + l) < y (a' + l)
theorem tw_tr {a b c : Nat} (h1 : tw_b y m b a) (h2 : tw_b y m c b) : tw_b y m c a := by
  obtain ⟨l, a1, a2, a3, a4⟩ := h1
  obtain ⟨l', b1, b2, b3, b4⟩ := h2
  rcases Nat.lt_trichotomy l l' with g | g | g
  · refine ⟨l, a1, by omega, fun k hk => ?_, ?_⟩
    · rw [a3 k hk, b3 k (by omega)]
    · rw [← b3 l g]; exact a4
  · subst g
    refine ⟨l, a1, b2, fun k hk => ?_, Nat.lt_trans a4 b4⟩
    rw [a3 k hk, b3 k hk]
  · refine ⟨l', by omega, b2, fun k hk => ?_, ?_⟩
    · rw [a3 k (by omega), b3 k hk]
    · rw [a3 l' g]; exact b4
/-- what findCut keeps: c the best start, N letters are read, w the period of what is read from c on -/
def tw_I (y : Nat → Nat) (m c w N : Nat) : Prop :=
  (∀ a, a < c → tw_b y m c a) ∧
  (∀ a l, c < a → a + l < N → (∀ q, q < l → y (a + q) = y (c + q)) → y (a + l) ≤ y (c + l)) ∧
  (∀ q, c + q + w < N → y (c + q + w) = y (c + q)) ∧
  (∀ r, 0 < r → r < w → ¬ ∀ q, q < w - r → y (c + r + q) = y (c + q))
/-- how N stands to the period -/
def tw_D (c w N D k : Nat) : Prop := N = c + D + k ∧ k < w ∧ ∃ e, 1 ≤ e ∧ D = e * w
theorem tw_mul {c w N : Nat} (h : ∀ q, c + q + w < N → y (c + q + w) = y (c + q)) : ∀ e q, c + q + e * w < N → y (c + q + e * w) = y (c + q) := by
  intro e
  induction e with
  | zero => intro q _; rw [Nat.zero_mul]; rfl
  | succ e ih =>
    intro q hq
    rw [Nat.succ_mul] at hq ⊢
    have a := h (q + e * w) (by omega)
    rw [show c + q + (e * w + w) = c + (q + e * w) + w by omega, a, show c + (q + e * w) = c + q + e * w by omega]
    exact ih q (by omega)
theorem tw_ini (hm : 1 ≤ m) : tw_I y m 0 1 1 ∧ tw_D 0 1 1 1 0 := by
  refine ⟨⟨fun a ha => absurd ha (Nat.not_lt_zero a), fun a l h1 h2 => by omega, fun q hq => by omega, fun r h1 h2 => by omega⟩, rfl, by omega, 1, by omega, rfl⟩
theorem tw_cmp {c w N D k : Nat} (I : tw_I y m c w N) (H : tw_D c w N D k) {a l : Nat} (ha : c < a) (hl : a + l = N) (hq : ∀ q, q < l → y (a + q) = y (c + q)) : y (c + k) ≤ y (c + l) := by
  obtain ⟨_, I2, I3, I4⟩ := I
  obtain ⟨hN, hk, e, he, hD⟩ := H
  have mul := tw_mul I3
  have hw : 0 < w := by omega
  have hdm := Nat.div_add_mod (a - c) w
  have hr := Nat.mod_lt (a - c) hw
  generalize (a - c) / w = q at hdm
  generalize (a - c) % w = r at hdm hr
  rw [Nat.mul_comm] at hdm
  have hqe : q ≤ e := by
    rcases Nat.lt_or_ge e q with g | g
    · have := Nat.mul_le_mul_right w g
      rw [Nat.succ_mul] at this
      omega
    · exact g
  rcases Nat.eq_zero_or_pos r with r0 | r0
  · obtain ⟨f, rfl⟩ : ∃ f, e = q + f := ⟨e - q, by omega⟩
    rw [Nat.add_mul] at hD
    have := mul f k (by omega)
    rw [show c + l = c + k + f * w by omega, this]
    exact Nat.le_refl _
  · rcases Nat.lt_or_ge q e with g | g
    · exfalso
      have h1 := Nat.mul_le_mul_right w g
      rw [Nat.succ_mul] at h1
      apply I4 r r0 hr
      intro x hx
      have h2 := mul q (r + x) (by omega)
      have h3 := hq x (by omega)
      rw [← h3, show c + r + x = c + (r + x) by omega, ← h2]
      exact congrArg y (by omega)
    · have e1 : q = e := by omega
      subst e1
      have h0 := Nat.mul_le_mul_right w he
      rw [Nat.one_mul] at h0
      have := I2 (c + r) l (by omega) (by omega) (fun x hx => by
        have h2 := mul q (r + x) (by omega)
        rw [← hq x hx, show c + r + x = c + (r + x) by omega, ← h2]
        exact congrArg y (by omega))
      rw [show c + r + l = c + k by omega] at this
      exact this
theorem tw_prev {c w N D k : Nat} (I : tw_I y m c w N) (H : tw_D c w N D k) : w ≤ D ∧ y (N - w) = y (c + k) := by
  obtain ⟨hN, hk, e, he, hD⟩ := H
  obtain ⟨f, rfl⟩ : ∃ f, e = f + 1 := ⟨e - 1, by omega⟩
  rw [Nat.succ_mul] at hD
  refine ⟨by omega, ?_⟩
  have := tw_mul I.2.2.1 f k (by omega)
  rw [← this]
  exact congrArg y (by omega)
theorem tw_eq {c w N D k : Nat} (I : tw_I y m c w N) (H : tw_D c w N D k) (h : y N = y (c + k)) : tw_I y m c w (N + 1) := by
  have hp := tw_prev I H
  have cmp := fun a l => tw_cmp I H (a := a) (l := l)
  obtain ⟨hN, hk, _⟩ := H
  obtain ⟨I1, I2, I3, I4⟩ := I
  refine ⟨I1, fun a l ha hl hq => ?_, fun q hq => ?_, I4⟩
  · rcases Nat.lt_or_ge (a + l) N with g | g
    · exact I2 a l ha g hq
    · have e : a + l = N := by omega
      rw [e, h]
      exact cmp a l ha e hq
  · rcases Nat.lt_or_ge (c + q + w) N with g | g
    · exact I3 q g
    · have e : c + q + w = N := by omega
      rw [e, h, ← hp.2]
      exact congrArg y (by omega)
theorem tw_D1 {c w N D k : Nat} (H : tw_D c w N D k) (h : k + 1 ≠ w) : tw_D c w (N + 1) D (k + 1) := by
  obtain ⟨hN, hk, e⟩ := H
  exact ⟨by omega, by omega, e⟩
theorem tw_D2 {c w N D k : Nat} (H : tw_D c w N D k) (h : k + 1 = w) : tw_D c w (N + 1) (D + w) 0 := by
  obtain ⟨hN, hk, e, he, hD⟩ := H
  exact ⟨by omega, by omega, e + 1, by omega, by rw [Nat.succ_mul, hD]⟩
theorem tw_lt {c w N D k : Nat} (I : tw_I y m c w N) (H : tw_D c w N D k) (h : y N < y (c + k)) : tw_I y m c (N + 1 - c) (N + 1) ∧ tw_D c (N + 1 - c) (N + 1) (N + 1 - c) 0 := by
  have cmp := fun a l => tw_cmp I H (a := a) (l := l)
  obtain ⟨hN, hk, _⟩ := H
  obtain ⟨I1, I2, I3, I4⟩ := I
  refine ⟨⟨I1, fun a l ha hl hq => ?_, fun q hq => by omega, fun r r1 r2 hq => ?_⟩, by omega, by omega, 1, by omega, (Nat.one_mul _).symm⟩
  · rcases Nat.lt_or_ge (a + l) N with g | g
    · exact I2 a l ha g hq
    · have e : a + l = N := by omega
      rw [e]
      exact Nat.le_of_lt (Nat.lt_of_lt_of_le h (cmp a l ha e hq))
  · have h1 := cmp (c + r) (N - (c + r)) (by omega) (by omega) (fun q hq' => hq q (by omega))
    have h2 := hq (N - (c + r)) (by omega)
    rw [show c + r + (N - (c + r)) = N by omega] at h2
    omega
theorem tw_gt {c w N D k : Nat} (I : tw_I y m c w N) (H : tw_D c w N D k) (h : y (c + k) < y N) (hNm : N < m) : tw_I y m (c + D) 1 (c + D + 1) ∧ tw_D (c + D) 1 (c + D + 1) 1 0 := by
  obtain ⟨hN, hk, e, he, hD⟩ := H
  obtain ⟨I1, I2, I3, I4⟩ := I
  have mul := tw_mul I3
  have hw : 0 < w := by omega
  have bq : ∀ q, q < e → tw_b y m (c + D) (c + q * w) := by
    intro q hqe
    have h1 := Nat.mul_le_mul_right w hqe
    rw [Nat.succ_mul] at h1
    refine ⟨k, by omega, by omega, fun x hx => ?_, ?_⟩
    · have a1 := mul q x (by omega)
      have a2 := mul e x (by omega)
      rw [show c + q * w + x = c + x + q * w by omega, a1, ← a2]
      exact congrArg y (by omega)
    · have a1 := mul q k (by omega)
      rw [show c + q * w + k = c + k + q * w by omega, a1, ← hN]
      exact h
  refine ⟨⟨fun a ha => ?_, fun a l h1 h2 => by omega, fun q hq => by omega, fun r h1 h2 => by omega⟩, by omega, by omega, 1, by omega, by omega⟩
  have b0 := bq 0 he
  rw [Nat.zero_mul, Nat.add_zero] at b0
  rcases Nat.lt_or_ge a c with g | g
  · exact tw_tr (I1 a g) b0
  · have hdm := Nat.div_add_mod (a - c) w
    have hr := Nat.mod_lt (a - c) hw
    generalize (a - c) / w = q at hdm
    generalize (a - c) % w = r at hdm hr
    rw [Nat.mul_comm] at hdm
    have hqe : q < e := by
      rcases Nat.lt_or_ge q e with g | g
      · exact g
      · have := Nat.mul_le_mul_right w g
        omega
    rcases Nat.eq_zero_or_pos r with r0 | r0
    · rw [show a = c + q * w by omega]
      exact bq q hqe
    · refine tw_tr ?_ (bq q hqe)
      have h1 := Nat.mul_le_mul_right w hqe
      rw [Nat.succ_mul] at h1
      obtain ⟨x, ⟨x1, x2⟩, x3⟩ := pk_least (fun x => x < w - r ∧ y (c + r + x) ≠ y (c + x)) (by
        apply Classical.byContradiction
        intro hno
        apply I4 r r0 hr
        intro x hx
        apply Classical.byContradiction
        intro hne
        exact hno ⟨x, hx, hne⟩)
      have agr : ∀ z, z < x → y (c + r + z) = y (c + z) := by
        intro z hz
        apply Classical.byContradiction
        intro hne
        exact x3 z hz ⟨by omega, hne⟩
      have le := I2 (c + r) x (by omega) (by omega) agr
      have m1 : ∀ z, z ≤ x → y (a + z) = y (c + r + z) := by
        intro z hz
        have := mul q (r + z) (by omega)
        rw [show a + z = c + (r + z) + q * w by omega, this]
        exact congrArg y (by omega)
      have m2 : ∀ z, z ≤ x → y (c + q * w + z) = y (c + z) := by
        intro z hz
        have := mul q z (by omega)
        rw [show c + q * w + z = c + z + q * w by omega, this]
      refine ⟨x, by omega, by omega, fun z hz => ?_, ?_⟩
      · rw [m1 z (by omega), m2 z (by omega)]; exact agr z hz
      · rw [m1 x (Nat.le_refl x), m2 x (Nat.le_refl x)]
        omega
/-- the greatest suffix from c on, and w its period -/
def tw_F (y : Nat → Nat) (m c w : Nat) : Prop :=
  1 ≤ w ∧ c + w ≤ m ∧
  (∀ a l, a + l < m → c + l < m → (∀ q, q < l → y (a + q) = y (c + q)) → y (a + l) ≤ y (c + l)) ∧
  (∀ a, a < c → ¬ ∀ q, c + q < m → y (a + q) = y (c + q)) ∧
  (∀ q, c + q + w < m → y (c + q + w) = y (c + q)) ∧
  (∀ r, 0 < r → r < w → ¬ ∀ q, q < w - r → y (c + r + q) = y (c + q))
theorem tw_fin {c w D k : Nat} (I : tw_I y m c w m) (H : tw_D c w m D k) : tw_F y m c w := by
  have hp := (tw_prev I H).1
  obtain ⟨hN, hk, e, he, hD⟩ := H
  obtain ⟨I1, I2, I3, I4⟩ := I
  refine ⟨by omega, by omega, fun a l h1 h2 hq => ?_, fun a ha hq => ?_, I3, I4⟩
  · rcases Nat.lt_trichotomy a c with g | g | g
    · obtain ⟨l', b1, b2, b3, b4⟩ := I1 a g
      rcases Nat.lt_trichotomy l l' with z | z | z
      · exact Nat.le_of_eq (b3 l z)
      · subst z; exact Nat.le_of_lt b4
      · have := hq l' z; omega
    · subst g; exact Nat.le_refl _
    · exact I2 a l g h1 hq
  · obtain ⟨l', b1, b2, b3, b4⟩ := I1 a ha
    have := hq l' b2
    omega
/-- what the search needs of the cut, in equalities alone -/
def tw_X (y : Nat → Nat) (m c w : Nat) : Prop :=
  1 ≤ w ∧ c + w ≤ m ∧
  (∀ s i, 1 ≤ s → i < m → c + s ≤ i → (∀ k, c ≤ k → s ≤ k → k < i → y k = y (k - s)) → y i = y (i - s)) ∧
  (∀ s, 1 ≤ s → (∀ k, c ≤ k → s ≤ k → k < m → y k = y (k - s)) → c < s ∧ w ≤ s) ∧
  (∀ q, c + q + w < m → y (c + q + w) = y (c + q))
theorem tw_mk {z : Nat → Nat} {c w c2 w2 : Nat} (F : tw_F y m c w) (G : tw_F z m c2 w2) (hc : c2 ≤ c) (hz : ∀ a b, z a ≤ z b → y b ≤ y a) (he : ∀ a b, y a = y b → z a = z b) : tw_X y m c w := by
  obtain ⟨f1, f2, f3, f4, f5, f6⟩ := F
  refine ⟨f1, f2, fun s i s1 him hi hk => ?_, fun s s1 hk => ⟨?_, ?_⟩, f5⟩
  · have a1 := f3 (c + s) (i - c - s) (by omega) (by omega) (fun q hq => by
      rw [hk (c + s + q) (by omega) (by omega) (by omega)]
      exact congrArg y (by omega))
    rw [show c + s + (i - c - s) = i by omega, show c + (i - c - s) = i - s by omega] at a1
    apply Nat.le_antisymm a1
    rcases Nat.lt_or_ge c s with g | g
    · apply hz
      have a2 := G.2.2.1 (c2 + s) (i - c2 - s) (by omega) (by omega) (fun q hq => by
        apply he
        rw [hk (c2 + s + q) (by omega) (by omega) (by omega)]
        exact congrArg y (by omega))
      rw [show c2 + s + (i - c2 - s) = i by omega, show c2 + (i - c2 - s) = i - s by omega] at a2
      exact a2
    · have a2 := f3 (c - s) (i - c) (by omega) (by omega) (fun q hq => by
        rw [hk (c + q) (by omega) (by omega) (by omega)]
        exact congrArg y (by omega))
      rw [show c - s + (i - c) = i - s by omega, show c + (i - c) = i by omega] at a2
      exact a2
  · rcases Nat.lt_or_ge c s with g | g
    · exact g
    · exact absurd (fun q hq => by
        rw [hk (c + q) (by omega) (by omega) hq]
        exact congrArg y (by omega)) (f4 (c - s) (by omega))
  · rcases Nat.lt_or_ge s w with g | g
    · exact absurd (fun q hq => by
        rw [hk (c + s + q) (by omega) (by omega) (by omega)]
        exact congrArg y (by omega)) (f6 s s1 g)
    · exact g
theorem tw_Xe {z : Nat → Nat} {c w : Nat} (X : tw_X z m c w) (h1 : ∀ a b, y a = y b → z a = z b) (h2 : ∀ a b, z a = z b → y a = y b) : tw_X y m c w := by
  obtain ⟨x1, x2, x3, x4, x5⟩ := X
  exact ⟨x1, x2, fun s i s1 hi hc hk => h2 _ _ (x3 s i s1 hi hc (fun k a b c => h1 _ _ (hk k a b c))),
    fun s s1 hk => x4 s s1 (fun k a b c => h1 _ _ (hk k a b c)), fun q hq => h2 _ _ (x5 q hq)⟩
/-- a repetition about the cut goes on to the end -/
theorem tw_rep {c w s : Nat} (X : tw_X y m c w) (s1 : 1 ≤ s) (h : ∀ k, c ≤ k → s ≤ k → k < c + s → k < m → y k = y (k - s)) : ∀ k, c ≤ k → s ≤ k → k < m → y k = y (k - s) := by
  intro k
  induction k using Nat.strongRecOn with
  | ind k ih =>
    intro k1 k2 k3
    rcases Nat.lt_or_ge k (c + s) with g | g
    · exact h k k1 k2 g k3
    · exact X.2.2.1 s k s1 k3 g (fun x x1 x2 x3 => ih x x3 x1 x2 (by omega))
/-- the pattern isn't periodic: no repetition is as short as a half -/
theorem tw_far {c w s : Nat} (X : tw_X y m c w) (hT : ∃ i, i < c ∧ ¬ (i + w < m ∧ y i = y (i + w))) (s1 : 1 ≤ s) (h : ∀ k, c ≤ k → s ≤ k → k < m → y k = y (k - s)) : c < s ∧ m - c < s := by
  have hcs := (X.2.2.2.1 s s1 h).1
  have hws := (X.2.2.2.1 s s1 h).2
  refine ⟨hcs, ?_⟩
  rcases Nat.lt_or_ge (m - c) s with g | g
  · exact g
  exfalso
  have hw := X.1
  have hcw := X.2.1
  have mul := tw_mul X.2.2.2.2
  have hdm := Nat.div_add_mod s w
  have hr := Nat.mod_lt s hw
  generalize s / w = q at hdm
  generalize s % w = r at hdm hr
  rw [Nat.mul_comm] at hdm
  rcases Nat.eq_zero_or_pos r with r0 | r0
  · obtain ⟨f, rfl⟩ : ∃ f, q = f + 1 := by
      cases q with
      | zero => rw [Nat.zero_mul] at hdm; omega
      | succ f => exact ⟨f, rfl⟩
    rw [Nat.succ_mul] at hdm
    have hR := tw_rep X hw (fun k k1 k2 k3 k4 => by
      have a1 := h (k - w + s) (by omega) (by omega) (by omega)
      rw [show k - w + s - s = k - w by omega] at a1
      have a2 := mul f (k - c) (by omega)
      rw [← a1, show k - w + s = c + (k - c) + f * w by omega, a2]
      exact congrArg y (by omega))
    have hcw' := (X.2.2.2.1 w hw hR).1
    obtain ⟨i, i1, i2⟩ := hT
    apply i2
    refine ⟨by omega, ?_⟩
    rw [hR (i + w) (by omega) (by omega) (by omega)]
    exact congrArg y (by omega)
  · have hR := tw_rep X r0 (fun k k1 k2 k3 k4 => by
      have a1 := h (k - r + s) (by omega) (by omega) (by omega)
      rw [show k - r + s - s = k - r by omega] at a1
      have a2 := mul q (k - c) (by omega)
      rw [← a1, show k - r + s = c + (k - c) + q * w by omega, a2]
      exact congrArg y (by omega))
    have := (X.2.2.2.1 r r0 hR).2
    omega
end
section
variable {t p : Nat → Nat} {n m c w : Nat}
/-- a letter of the right half doesn't fit -/
theorem tw_sR {i j s : Nat} (X : tw_X p m c w) (him : i < m) (hf : ∀ k, c ≤ k → k < i → p k = t (k + j)) (hb : p i ≠ t (i + j)) (s1 : 1 ≤ s) (s2 : c + s ≤ i) : ¬ oc_c t p n m (j + s) := by
  intro ho
  apply hb
  rw [X.2.2.1 s i s1 him s2 (fun k k1 k2 k3 => by
    rw [hf k k1 k3, ← ho.2 (k - s) (by omega)]
    exact congrArg t (by omega)), ← ho.2 (i - s) (by omega)]
  exact congrArg t (by omega)
/-- the right half fits -/
theorem tw_rp {j s : Nat} (hf : ∀ k, c ≤ k → k < m → p k = t (k + j)) (ho : oc_c t p n m (j + s)) : ∀ k, c ≤ k → s ≤ k → k < m → p k = p (k - s) := by
  intro k k1 k2 k3
  rw [hf k k1 k3, ← ho.2 (k - s) (by omega)]
  exact congrArg t (by omega)
theorem tw_sP {j s : Nat} (X : tw_X p m c w) (hf : ∀ k, c ≤ k → k < m → p k = t (k + j)) (s1 : 1 ≤ s) (s2 : s < w) : ¬ oc_c t p n m (j + s) := by
  intro ho
  have := (X.2.2.2.1 s s1 (tw_rp hf ho)).2
  omega
theorem tw_sF {j s : Nat} (X : tw_X p m c w) (hT : ∃ i, i < c ∧ ¬ (i + w < m ∧ p i = p (i + w))) (hf : ∀ k, c ≤ k → k < m → p k = t (k + j)) (s1 : 1 ≤ s) (s2 : s ≤ c ∨ s ≤ m - c) : ¬ oc_c t p n m (j + s) := by
  intro ho
  have := tw_far X hT s1 (tw_rp hf ho)
  omega
/-- the pattern is periodic -/
theorem tw_per (X : tw_X p m c w) (hT : ∀ i, i < c → i + w < m ∧ p i = p (i + w)) : c < w ∧ ∀ i, i + w < m → p (i + w) = p i := by
  have hp : ∀ i, i + w < m → p (i + w) = p i := by
    intro i hi
    rcases Nat.lt_or_ge i c with g | g
    · exact (hT i g).2.symm
    · have := X.2.2.2.2 (i - c) (by omega)
      rw [show c + (i - c) + w = i + w by omega, show c + (i - c) = i by omega] at this
      exact this
  refine ⟨(X.2.2.2.1 w X.1 (fun k k1 k2 k3 => ?_)).1, hp⟩
  have := hp (k - w) (by omega)
  rw [show k - w + w = k by omega] at this
  exact this
/-- what is known to fit after a shift by the period -/
theorem tw_mem {j : Nat} (X : tw_X p m c w) (hT : ∀ i, i < c → i + w < m ∧ p i = p (i + w)) (hf : ∀ k, c ≤ k → k < m → p k = t (k + j)) : ∀ k, k < m - w → p k = t (k + (j + w)) := by
  intro k hk
  have h := tw_per X hT
  rw [← h.2 k (by omega), hf (k + w) (by omega) (by omega)]
  exact congrArg t (by omega)
end
end
section
/-! sums that roll on; shift-and; the window read backwards -/
def rk_P (w : Nat → Nat) (j : Nat) : Nat → Nat
  | 0 => 0
  | k + 1 => rk_P w j k * 5 + w (j + k)
theorem rk_l (w : Nat → Nat) (j : Nat) : ∀ k, rk_P w j (k + 1) = 5 ^ k * w j + rk_P w (j + 1) k := by
  intro k
  induction k with
  | zero => show rk_P w j 0 * 5 + w (j + 0) = 5 ^ 0 * w j + 0; show 0 * 5 + w j = 1 * w j + 0; omega
  | succ k ih =>
    show rk_P w j (k + 1) * 5 + w (j + (k + 1)) = 5 ^ (k + 1) * w j + (rk_P w (j + 1) k * 5 + w (j + 1 + k))
    rw [ih, Nat.pow_succ, Nat.add_mul, show j + (k + 1) = j + 1 + k by omega, Nat.mul_right_comm]
    omega
theorem rk_w (A d : Nat) : (A % 97 * 5 + d) % 97 = (A * 5 + d) % 97 := by omega
theorem rk_s (w : Nat → Nat) (j k : Nat) : (rk_P w j k % 97 * 5 + w (j + k)) % 97 = rk_P w j (k + 1) % 97 := rk_w _ _
theorem rk_e {t p : Nat → Nat} {j m : Nat} (h : ∀ k, k < m → t (j + k) = p k) : rk_P t j m = rk_P p 0 m := by
  induction m with
  | zero => rfl
  | succ m ih =>
    show rk_P t j m * 5 + t (j + m) = rk_P p 0 m * 5 + p (0 + m)
    rw [ih (fun k hk => h k (by omega)), h m (by omega), Nat.zero_add]
theorem rk_ab (A B d : Nat) : (((A + B) % 97 + 388 - A % 97) % 97 * 5 + d) % 97 = (B * 5 + d) % 97 := by omega
theorem rk_roll {t : Nat → Nat} {j m : Nat} (hm : 1 ≤ m) : ((rk_P t j m % 97 + 388 - (5 ^ (m - 1) % 97 * t j) % 97) % 97 * 5 + t (j + m)) % 97 = rk_P t (j + 1) m % 97 := by
  obtain ⟨k, rfl⟩ : ∃ k, m = k + 1 := ⟨m - 1, by omega⟩
  have h1 : (5 ^ (k + 1 - 1) % 97 * t j) % 97 = (5 ^ k * t j) % 97 := by
    rw [Nat.add_sub_cancel, Nat.mul_mod, Nat.mod_mod, ← Nat.mul_mod]
  rw [h1, rk_l t j k, rk_ab, show j + (k + 1) = j + 1 + k by omega]
  rfl
theorem rk_wt (i : Nat) : (5 ^ (i + 1 - 1) % 97 * 5) % 97 = 5 ^ (i + 2 - 1) % 97 := by
  rw [show i + 2 - 1 = i + 1 by omega, Nat.add_sub_cancel, Nat.pow_succ]
  omega
/-! bits of an int -/
theorem b_1 : ∀ k, k < 32 → bt 1 k = decide (k = 0) := by decide +kernel
theorem b_one {I k : Nat} (hI : I < 32) (hk : k < 32) : bt ((1 : Int32) <<< (nI I &&& 31)) k = decide (k = I) := by
  rw [b_shl I hI 1 hk, b_1 (k - I) (by omega)]
  by_cases h : k = I
  · subst h; simp
  · by_cases g : I ≤ k
    · simp [h, g]; omega
    · simp [h, g]
theorem b_tst {x : Int32} : (x &&& 1) = 0 ↔ bt x 0 = false := by
  constructor
  · intro h
    have := congrArg (fun z => bt z 0) h
    simp only [b_and, b_0, b_1 0 (by omega)] at this
    simpa using this
  · intro h
    apply b_ext
    intro i hi
    rw [b_and, b_0, b_1 i hi]
    by_cases e : i = 0
    · subst e; rw [h]; rfl
    · simp [e]
theorem b_top {x : Int32} {s : Nat} (hs : s < 32) : ((x >>> (nI s &&& 31)) &&& 1) = 0 ↔ bt x s = false := by
  rw [b_tst, b_sshr s hs x (by omega), if_pos (by omega), Nat.add_zero]
theorem b_nz {x : Int32} : x = 0 ↔ ∀ k, k < 32 → bt x k = false := by
  constructor
  · intro h k _; rw [h, b_0]
  · intro h; apply b_ext; intro k hk; rw [h k hk, b_0]
/-- the masks of the letters, places below I -/
def sa_M (p : Nat → Nat) (I : Nat) (ma : Nat → Int32) : Prop := ∀ c, c < 4 → ∀ k, k < 32 → (bt (ma c) k = true ↔ (k < I ∧ p k = c))
theorem sa_M0 {p : Nat → Nat} {ma : Nat → Int32} (h : ∀ c, c < 4 → ma c = 0) : sa_M p 0 ma := by
  intro c hc k _
  rw [h c hc, b_0]
  exact ⟨fun z => (by cases z), fun z => absurd z.1 (Nat.not_lt_zero k)⟩
theorem sa_Ms {p : Nat → Nat} {I : Nat} {ma : Nat → Int32} (h : sa_M p I ma) (hI : I < 32) : sa_M p (I + 1) (upd ma (p I) (ma (p I) ||| ((1 : Int32) <<< (nI I &&& 31)))) := by
  intro c hc k hk
  by_cases e : c = p I
  · subst e
    rw [pk_us, b_or, b_one hI hk, Bool.or_eq_true, h (p I) hc k hk, decide_eq_true_eq]
    constructor
    · rintro (z | z)
      · exact ⟨by omega, z.2⟩
      · subst z; exact ⟨by omega, rfl⟩
    · intro z
      by_cases g : k = I
      · exact Or.inr g
      · exact Or.inl ⟨by omega, z.2⟩
  · rw [pk_un e, h c hc k hk]
    constructor
    · exact fun z => ⟨by omega, z.2⟩
    · intro z
      have : k ≠ I := fun g => e (by rw [← z.2, g])
      exact ⟨by omega, z.2⟩
/-- bit k: the first k + 1 letters of the pattern end here -/
def sa_E (t p : Nat → Nat) (m i : Nat) (x : Int32) : Prop := ∀ k, k < 32 → (bt x k = true ↔ (k < m ∧ kb_S t p i (k + 1)))
theorem sa_E0 {t p : Nat → Nat} {m : Nat} : sa_E t p m 0 0 := by
  intro k _
  rw [b_0]
  exact ⟨fun z => (by cases z), fun z => absurd z.2.1 (by omega)⟩
theorem sa_Es {t p : Nat → Nat} {m i : Nat} {x : Int32} {ma : Nat → Int32} (h : sa_E t p m i x) (hM : sa_M p m ma) (ht : t i < 4) : sa_E t p m (i + 1) (((x <<< ((1 : Int32) &&& 31)) ||| 1) &&& ma (t i)) := by
  intro k hk
  have e1 : bt (x <<< ((1 : Int32) &&& 31)) k = (decide (1 ≤ k) && bt x (k - 1)) := b_shl 1 (by omega) x hk
  rw [b_and, b_or, e1, b_1 k hk, Bool.and_eq_true, hM (t i) ht k hk, kb_s]
  cases k with
  | zero =>
    simp
    intro _
    exact ⟨fun z => ⟨kb_0, z.symm⟩, fun z => z.2.symm⟩
  | succ k =>
    have := h k (by omega)
    simp
    rw [this]
    constructor
    · rintro ⟨⟨_, a⟩, b, c⟩; exact ⟨b, a, c.symm⟩
    · rintro ⟨b, a, c⟩; exact ⟨⟨by omega, a⟩, b, c.symm⟩
/-! the window read backwards -/
/-- the masks, turned about -/
def bn_M (p : Nat → Nat) (m I : Nat) (ma : Nat → Int32) : Prop := ∀ c, c < 4 → ∀ b, b < 32 → (bt (ma c) b = true ↔ (b < m ∧ m - 1 - b < I ∧ p (m - 1 - b) = c))
theorem bn_M0 {p : Nat → Nat} {m : Nat} {ma : Nat → Int32} (h : ∀ c, c < 4 → ma c = 0) : bn_M p m 0 ma := by
  intro c hc k _
  rw [h c hc, b_0]
  exact ⟨fun z => (by cases z), fun z => absurd z.2.1 (Nat.not_lt_zero _)⟩
theorem bn_Ms {p : Nat → Nat} {m I : Nat} {ma : Nat → Int32} (h : bn_M p m I ma) (hI : I < m) (hm : m ≤ 12) : bn_M p m (I + 1) (upd ma (p I) (ma (p I) ||| ((1 : Int32) <<< (nI (m - 1 - I) &&& 31)))) := by
  intro c hc b hb
  by_cases e : c = p I
  · subst e
    rw [pk_us, b_or, b_one (by omega) hb, Bool.or_eq_true, h (p I) hc b hb, decide_eq_true_eq]
    constructor
    · rintro (z | z)
      · exact ⟨z.1, by omega, z.2.2⟩
      · subst z; exact ⟨by omega, by omega, congrArg p (by omega)⟩
    · intro z
      by_cases g : b = m - 1 - I
      · exact Or.inr g
      · exact Or.inl ⟨z.1, by omega, z.2.2⟩
  · rw [pk_un e, h c hc b hb]
    constructor
    · exact fun z => ⟨z.1, by omega, z.2.2⟩
    · intro z
      have : m - 1 - b ≠ I := fun g => e (by rw [← z.2.2, g])
      exact ⟨z.1, by omega, z.2.2⟩
/-- k letters are read: bit b says that they stand in the pattern from m - b on -/
def bn_H (t p : Nat → Nat) (m j k : Nat) (x : Int32) : Prop := ∀ b, b < 32 → (bt x b = true ↔ (b < m ∧ k ≤ b ∧ ∀ r, r < k → p (m - b + r) = t (j + m - k + r)))
/-- with one letter more, before the shift -/
def bn_G (t p : Nat → Nat) (m j k : Nat) (x : Int32) : Prop := ∀ b, b < 32 → (bt x b = true ↔ (b < m ∧ k ≤ b ∧ ∀ r, r < k + 1 → p (m - 1 - b + r) = t (j + m - (k + 1) + r)))
def bn_F (t p : Nat → Nat) (m j k : Nat) : Prop := ∀ r, r < k → p r = t (j + m - k + r)
theorem bn_all : ∀ m, m ≤ 12 → ∀ b, b < 32 → bt (((1 : Int32) <<< (nI m &&& 31)) - 1) b = decide (b < m) := by decide +kernel
theorem bn_H0 {t p : Nat → Nat} {m j : Nat} (hm : m ≤ 12) : bn_H t p m j 0 (((1 : Int32) <<< (nI m &&& 31)) - 1) := by
  intro b hb
  rw [bn_all m hm b hb, decide_eq_true_eq]
  exact ⟨fun h => ⟨h, Nat.zero_le b, fun r hr => absurd hr (Nat.not_lt_zero r)⟩, fun h => h.1⟩
theorem bn_HG {t p : Nat → Nat} {m j k : Nat} {x : Int32} {ma : Nat → Int32} (h : bn_H t p m j k x) (hM : bn_M p m m ma) (ht : l4_f t) (hk : k < m) : bn_G t p m j k (x &&& ma (t (j + (m - 1 - k)))) := by
  intro b hb
  rw [b_and, Bool.and_eq_true, h b hb, hM _ (ht _) b hb]
  constructor
  · rintro ⟨⟨a1, a2, a3⟩, _, _, a4⟩
    refine ⟨a1, a2, fun r hr => ?_⟩
    cases r with
    | zero => rw [Nat.add_zero, a4]; exact congrArg t (by omega)
    | succ r =>
      have := a3 r (by omega)
      rw [show m - 1 - b + (r + 1) = m - b + r by omega, this]
      exact congrArg t (by omega)
  · rintro ⟨a1, a2, a3⟩
    refine ⟨⟨a1, a2, fun r hr => ?_⟩, a1, by omega, ?_⟩
    · have := a3 (r + 1) (by omega)
      rw [show m - b + r = m - 1 - b + (r + 1) by omega, this]
      exact congrArg t (by omega)
    · have := a3 0 (by omega)
      rw [Nat.add_zero] at this
      rw [this]
      exact congrArg t (by omega)
theorem bn_GF {t p : Nat → Nat} {m j k : Nat} {x : Int32} (h : bn_G t p m j k x) (hk : k < m) (hm : m ≤ 12) : bt x (m - 1) = true ↔ bn_F t p m j (k + 1) := by
  rw [h (m - 1) (by omega)]
  constructor
  · rintro ⟨_, _, a⟩ r hr
    rw [← a r hr]
    exact congrArg p (by omega)
  · intro a
    refine ⟨by omega, by omega, fun r hr => ?_⟩
    rw [← a r hr]
    exact congrArg p (by omega)
theorem bn_GH {t p : Nat → Nat} {m j k : Nat} {x : Int32} (h : bn_G t p m j k x) (hm : m ≤ 12) : bn_H t p m j (k + 1) ((x <<< ((1 : Int32) &&& 31)) &&& (((1 : Int32) <<< (nI m &&& 31)) - 1)) := by
  intro b hb
  have e1 : bt (x <<< ((1 : Int32) &&& 31)) b = (decide (1 ≤ b) && bt x (b - 1)) := b_shl 1 (by omega) x hb
  rw [b_and, e1, bn_all m hm b hb, Bool.and_eq_true, Bool.and_eq_true, decide_eq_true_eq, decide_eq_true_eq, h (b - 1) (by omega)]
  constructor
  · rintro ⟨⟨a0, a1, a2, a3⟩, a4⟩
    refine ⟨a4, by omega, fun r hr => ?_⟩
    rw [← a3 r hr]
    exact congrArg p (by omega)
  · rintro ⟨a1, a2, a3⟩
    refine ⟨⟨by omega, by omega, by omega, fun r hr => ?_⟩, a1⟩
    rw [← a3 r hr]
    exact congrArg p (by omega)
theorem bn_dead {t p : Nat → Nat} {n m j k s : Nat} (h : bn_H t p m j k 0) (hm : m ≤ 12) (hs : s + k < m) : ¬ oc_c t p n m (j + s) := by
  intro ho
  have h1 := (h (k + s) (by omega)).mpr ⟨by omega, by omega, fun r hr => by
    rw [← ho.2 (m - (k + s) + r) (by omega)]
    exact congrArg t (by omega)⟩
  rw [b_0] at h1
  cases h1
theorem bn_ocF {t p : Nat → Nat} {n m j s : Nat} (hs : s ≤ m) (ho : oc_c t p n m (j + s)) : bn_F t p m j (m - s) := by
  intro r hr
  rw [← ho.2 r (by omega)]
  exact congrArg t (by omega)
theorem bn_Foc {t p : Nat → Nat} {n m j : Nat} (hj : j + m ≤ n) (h : bn_F t p m j m) : oc_c t p n m j := by
  refine ⟨hj, fun k hk => ?_⟩
  rw [h k hk]
  exact congrArg t (by omega)
/-- what 'last' says after k letters -/
def bn_L (t p : Nat → Nat) (m j k L : Nat) : Prop := 1 ≤ L ∧ L ≤ m ∧ ∀ s, 1 ≤ s → s < L → m ≤ k + s → ¬ bn_F t p m j (m - s)
theorem bn_L0 {t p : Nat → Nat} {m j : Nat} (hm : 1 ≤ m) : bn_L t p m j 0 m := ⟨hm, Nat.le_refl m, fun s s1 s2 s3 => by omega⟩
theorem bn_Ln {t p : Nat → Nat} {m j k L : Nat} (h : bn_L t p m j k L) (hF : ¬ bn_F t p m j (k + 1)) : bn_L t p m j (k + 1) L := by
  refine ⟨h.1, h.2.1, fun s s1 s2 s3 => ?_⟩
  rcases Nat.lt_or_ge (k + s) m with g | g
  · rw [show m - s = k + 1 by omega]; exact hF
  · exact h.2.2 s s1 s2 g
theorem bn_Ly {t p : Nat → Nat} {m j k : Nat} (hk : k + 1 < m) : bn_L t p m j (k + 1) (m - (k + 1)) := ⟨by omega, by omega, fun s s1 s2 s3 => by omega⟩
theorem bn_Lm {t p : Nat → Nat} {m j L : Nat} (k : Nat) (hk : k + 1 = m) (h : bn_L t p m j k L) : bn_L t p m j m L :=
  ⟨h.1, h.2.1, fun s s1 s2 s3 => h.2.2 s s1 s2 (by omega)⟩
end
section
/-! sorted suffixes: a beginning of h letters is a number to the base 5 -/
def dv_n (f : Nat → Nat) : Nat → Nat
  | 0 => 0
  | k + 1 => dv_n f k * 5 + f k
theorem dv_lt {f : Nat → Nat} (hf : ∀ q, f q < 5) : ∀ k, dv_n f k < 5 ^ k := by
  intro k
  induction k with
  | zero => exact Nat.one_pos
  | succ k ih =>
    show dv_n f k * 5 + f k < 5 ^ (k + 1)
    rw [Nat.pow_succ]
    have := hf k
    omega
theorem dv_add (f : Nat → Nat) (a : Nat) : ∀ b, dv_n f (a + b) = dv_n f a * 5 ^ b + dv_n (fun q => f (a + q)) b := by
  intro b
  induction b with
  | zero => show dv_n f a = dv_n f a * 1 + 0; omega
  | succ b ih =>
    show dv_n f (a + b) * 5 + f (a + b) = dv_n f a * 5 ^ (b + 1) + (dv_n (fun q => f (a + q)) b * 5 + f (a + b))
    rw [ih, Nat.pow_succ, Nat.add_mul, Nat.mul_assoc]
    omega
theorem dv_cong {f g : Nat → Nat} {k : Nat} (h : ∀ q, q < k → f q = g q) : dv_n f k = dv_n g k := by
  induction k with
  | zero => rfl
  | succ k ih =>
    show dv_n f k * 5 + f k = dv_n g k * 5 + g k
    rw [ih (fun q hq => h q (by omega)), h k (by omega)]
theorem dv_inj {f g : Nat → Nat} (hf : ∀ q, f q < 5) (hg : ∀ q, g q < 5) : ∀ k, dv_n f k = dv_n g k → ∀ q, q < k → f q = g q := by
  intro k
  induction k with
  | zero => intro _ q hq; exact absurd hq (Nat.not_lt_zero q)
  | succ k ih =>
    intro h q hq
    have h : dv_n f k * 5 + f k = dv_n g k * 5 + g k := h
    have h1 := hf k
    have h2 := hg k
    rcases Nat.lt_or_ge q k with z | z
    · exact ih (by omega) q z
    · have : q = k := by omega
      subst this
      omega
theorem dv_up {f g : Nat → Nat} (hf : ∀ q, f q < 5) {k : Nat} (h : dv_n f k < dv_n g k) : ∀ d, dv_n f (k + d) < dv_n g (k + d) := by
  intro d
  induction d with
  | zero => exact h
  | succ d ih =>
    show dv_n f (k + d) * 5 + f (k + d) < dv_n g (k + d) * 5 + g (k + d)
    have := hf (k + d)
    omega
/-- letter k of the suffix from i on, by one greater; 0 behind the end -/
def sc_l (t : Nat → Nat) (n i : Nat) : Nat → Nat := fun k => if i + k < n then t (i + k) + 1 else 0
theorem sc_5 {t : Nat → Nat} (ht : l4_f t) (n i k : Nat) : sc_l t n i k < 5 := by
  unfold sc_l
  split
  · have := ht (i + k); omega
  · omega
def sv_n (t : Nat → Nat) (n h i : Nat) : Nat := dv_n (sc_l t n i) h
theorem sv_add {t : Nat → Nat} {n h g i : Nat} : sv_n t n (h + g) i = sv_n t n h i * 5 ^ g + sv_n t n g (i + h) := by
  unfold sv_n
  rw [dv_add]
  congr 1
  apply dv_cong
  intro q _
  unfold sc_l
  rw [Nat.add_assoc]
theorem sv_lt {t : Nat → Nat} (ht : l4_f t) (n h i : Nat) : sv_n t n h i < 5 ^ h := dv_lt (sc_5 ht n i) h
theorem sv_lex {A B C D E : Nat} (hB : B < E) (hD : D < E) : A * E + B < C * E + D ↔ (A < C ∨ (A = C ∧ B < D)) := by
  rcases Nat.lt_trichotomy A C with g | g | g
  · have := Nat.mul_le_mul_right E g
    rw [Nat.succ_mul] at this
    exact ⟨fun _ => Or.inl g, fun _ => by omega⟩
  · subst g
    exact ⟨fun h => Or.inr ⟨rfl, by omega⟩, fun h => by omega⟩
  · have := Nat.mul_le_mul_right E g
    rw [Nat.succ_mul] at this
    exact ⟨fun h => by omega, fun h => by omega⟩
theorem sv_two {t : Nat → Nat} (ht : l4_f t) {n h i j : Nat} : sv_n t n (h + h) i < sv_n t n (h + h) j ↔ (sv_n t n h i < sv_n t n h j ∨ (sv_n t n h i = sv_n t n h j ∧ sv_n t n h (i + h) < sv_n t n h (j + h))) := by
  rw [sv_add, sv_add]
  exact sv_lex (sv_lt ht n h _) (sv_lt ht n h _)
theorem sv_le {t : Nat → Nat} (ht : l4_f t) {n h g i j : Nat} (h1 : sv_n t n (h + g) i ≤ sv_n t n (h + g) j) : sv_n t n h i ≤ sv_n t n h j := by
  rcases Nat.lt_or_ge (sv_n t n h j) (sv_n t n h i) with z | z
  · have := dv_up (f := sc_l t n j) (g := sc_l t n i) (sc_5 ht n j) (k := h) z g
    exact absurd h1 (Nat.not_le.mpr this)
  · exact z
theorem sv_out {t : Nat → Nat} {n i : Nat} (hi : n ≤ i) : ∀ h, sv_n t n h i = 0 := by
  intro h
  induction h with
  | zero => rfl
  | succ h ih =>
    show dv_n (sc_l t n i) h * 5 + sc_l t n i h = 0
    have e : dv_n (sc_l t n i) h = 0 := ih
    rw [e]
    unfold sc_l
    rw [if_neg (by omega)]
theorem sv_pos {t : Nat → Nat} {n i : Nat} (hi : i < n) : ∀ h, 0 < sv_n t n (h + 1) i := by
  intro h
  induction h with
  | zero =>
    show 0 < dv_n (sc_l t n i) 0 * 5 + sc_l t n i 0
    unfold sc_l
    rw [if_pos (by omega)]
    omega
  | succ h ih =>
    show 0 < dv_n (sc_l t n i) (h + 1) * 5 + sc_l t n i (h + 1)
    have : 0 < dv_n (sc_l t n i) (h + 1) := ih
    omega
theorem sv_1 {t : Nat → Nat} {n i : Nat} (hi : i < n) : sv_n t n 1 i = t i + 1 := by
  show 0 * 5 + sc_l t n i 0 = t i + 1
  unfold sc_l
  rw [if_pos (by omega), Nat.zero_mul, Nat.zero_add]
  rfl
/-- ranks by the first h letters -/
def rn_K (t : Nat → Nat) (n h : Nat) (r : Nat → Nat) : Prop := ∀ i j, i < n → j < n → (r i < r j ↔ sv_n t n h i < sv_n t n h j)
theorem rn_K1 {t : Nat → Nat} {n : Nat} : rn_K t n 1 t := by
  intro i j hi hj
  rw [sv_1 hi, sv_1 hj]
  omega
theorem rn_eq {t : Nat → Nat} {n h : Nat} {r : Nat → Nat} (H : rn_K t n h r) {i j : Nat} (hi : i < n) (hj : j < n) : r i = r j ↔ sv_n t n h i = sv_n t n h j := by
  have a := H i j hi hj
  have b := H j i hj hi
  omega
/-- the rank by one greater, 0 behind the end -/
def rn_x (n : Nat) (r : Nat → Nat) (i : Nat) : Nat := if i < n then r i + 1 else 0
theorem rn_xK {t : Nat → Nat} {n h : Nat} {r : Nat → Nat} (H : rn_K t n (h + 1) r) (i j : Nat) : rn_x n r i < rn_x n r j ↔ sv_n t n (h + 1) i < sv_n t n (h + 1) j := by
  unfold rn_x
  by_cases hi : i < n
  · by_cases hj : j < n
    · rw [if_pos hi, if_pos hj, ← H i j hi hj]; omega
    · rw [if_pos hi, if_neg hj, sv_out (i := j) (by omega)]; omega
  · by_cases hj : j < n
    · rw [if_neg hi, if_pos hj, sv_out (i := i) (by omega)]
      have := sv_pos (t := t) hj h
      omega
    · rw [if_neg hi, if_neg hj, sv_out (i := i) (by omega), sv_out (i := j) (by omega)]
/-- goesBefore, in numbers -/
theorem rn_go {t : Nat → Nat} (ht : l4_f t) {n h : Nat} {r : Nat → Nat} (H : rn_K t n (h + 1) r) {i j : Nat} (hi : i < n) (hj : j < n) :
    sv_n t n (h + 1 + (h + 1)) i < sv_n t n (h + 1 + (h + 1)) j ↔ (r i < r j ∨ (r i = r j ∧ rn_x n r (i + (h + 1)) < rn_x n r (j + (h + 1)))) := by
  rw [sv_two ht, H i j hi hj, rn_eq H hi hj, rn_xK H]
/-! insertion: the order of keys is that of naturals -/
/-- s holds numbers below n, each of them -/
def so_P (n : Nat) (s : Nat → Nat) : Prop := (∀ k, k < n → s k < n) ∧ ∀ i, i < n → ∃ k, k < n ∧ s k = i
/-- s with the one at k put to i, those between moved up -/
def so_ins (s : Nat → Nat) (k i : Nat) : Nat → Nat := fun q => if q < i then s q else if q = i then s k else if q ≤ k then s (q - 1) else s q
theorem so_insP {n k i : Nat} {s : Nat → Nat} (h : so_P n s) (hk : k < n) (hi : i ≤ k) : so_P n (so_ins s k i) := by
  constructor
  · intro q hq
    unfold so_ins
    split
    · exact h.1 q hq
    · split
      · exact h.1 k hk
      · split
        · exact h.1 (q - 1) (by omega)
        · exact h.1 q hq
  · intro v hv
    obtain ⟨q, hq, e⟩ := h.2 v hv
    rcases Nat.lt_or_ge q i with g | g
    · exact ⟨q, hq, by unfold so_ins; rw [if_pos g]; exact e⟩
    · rcases Nat.lt_trichotomy q k with z | z | z
      · refine ⟨q + 1, by omega, ?_⟩
        unfold so_ins
        rw [if_neg (by omega), if_neg (by omega), if_pos (by omega)]
        exact e
      · subst z
        refine ⟨i, by omega, ?_⟩
        unfold so_ins
        rw [if_neg (by omega), if_pos rfl]
        exact e
      · refine ⟨q, hq, ?_⟩
        unfold so_ins
        rw [if_neg (by omega), if_neg (by omega), if_neg (by omega)]
        exact e
/-- the first k stand in order -/
def so_O (K : Nat → Nat) (k : Nat) (s : Nat → Nat) : Prop := ∀ a b, a ≤ b → b < k → K (s a) ≤ K (s b)
theorem so_insO {K : Nat → Nat} {k i : Nat} {s : Nat → Nat} (h : so_O K k s) (hi : i ≤ k) (h1 : ∀ q, i ≤ q → q < k → K (s k) < K (s q)) (h2 : ∀ j, i = j + 1 → K (s j) ≤ K (s k)) : so_O K (k + 1) (so_ins s k i) := by
  have lo : ∀ q, q < i → K (s q) ≤ K (s k) := by
    intro q hq
    have a := h2 (i - 1) (by omega)
    have b := h q (i - 1) (by omega) (by omega)
    omega
  intro a b hab hb
  unfold so_ins
  rcases Nat.lt_trichotomy a i with g | g | g
  · rw [if_pos g]
    rcases Nat.lt_trichotomy b i with z | z | z
    · rw [if_pos z]; exact h a b hab (by omega)
    · rw [if_neg (by omega), if_pos z]; exact lo a g
    · rw [if_neg (by omega), if_neg (by omega), if_pos (by omega)]; exact h a (b - 1) (by omega) (by omega)
  · rw [if_neg (by omega), if_pos g]
    rcases Nat.lt_trichotomy b i with z | z | z
    · omega
    · rw [if_neg (by omega), if_pos z]; exact Nat.le_refl _
    · rw [if_neg (by omega), if_neg (by omega), if_pos (by omega)]
      exact Nat.le_of_lt (h1 (b - 1) (by omega) (by omega))
  · rw [if_neg (by omega), if_neg (by omega), if_pos (by omega), if_neg (by omega), if_neg (by omega), if_pos (by omega)]
    exact h (a - 1) (b - 1) (by omega) (by omega)
/-- new ranks of the first k -/
def so_N (K : Nat → Nat) (k : Nat) (s r : Nat → Nat) : Prop := ∀ a b, a < k → b < k → (r (s a) < r (s b) ↔ K (s a) < K (s b))
theorem so_N1 {K : Nat → Nat} {s r : Nat → Nat} : so_N K 1 s r := by
  intro a b ha hb
  have : a = 0 := by omega
  have : b = 0 := by omega
  subst a
  subst b
  exact ⟨fun h => absurd h (Nat.lt_irrefl _), fun h => absurd h (Nat.lt_irrefl _)⟩
theorem so_Ns {K : Nat → Nat} {n k v : Nat} {s r : Nat → Nat} (hO : so_O K n s) (hk : 1 ≤ k) (hkn : k < n) (h : so_N K k s r)
    (hv : v = r (s (k - 1)) + (if K (s (k - 1)) < K (s k) then 1 else 0)) : so_N K (k + 1) s (un_f r (s k) v) := by
  have key : ∀ a, a < k → un_f r (s k) v (s a) = r (s a) := by
    intro a ha
    by_cases e : s a = s k
    · rw [e, un_s]
      have o1 := hO a (k - 1) (by omega) (by omega)
      have o2 := hO (k - 1) k (by omega) hkn
      rw [e] at o1
      have o3 : K (s (k - 1)) = K (s k) := by omega
      rw [if_neg (by omega)] at hv
      have n1 := h a (k - 1) ha (by omega)
      have n2 := h (k - 1) a (by omega) ha
      rw [e] at n1 n2
      omega
    · exact un_n e
  have up : ∀ a, a < k → (r (s a) < v ↔ K (s a) < K (s k)) ∧ ¬ v < r (s a) ∧ ¬ K (s k) < K (s a) := by
    intro a ha
    have o1 := hO a (k - 1) (by omega) (by omega)
    have o2 := hO (k - 1) k (by omega) hkn
    have n1 := h a (k - 1) ha (by omega)
    have n2 := h (k - 1) a (by omega) ha
    by_cases g : K (s (k - 1)) < K (s k)
    · rw [if_pos g] at hv
      refine ⟨?_, by omega, by omega⟩
      constructor
      · intro _; omega
      · intro _; omega
    · rw [if_neg g] at hv
      refine ⟨?_, by omega, by omega⟩
      rw [hv, Nat.add_zero, n1]
      omega
  intro a b ha hb
  rcases Nat.lt_or_ge a k with ga | ga
  · rcases Nat.lt_or_ge b k with gb | gb
    · rw [key a ga, key b gb]; exact h a b ga gb
    · have : b = k := by omega
      subst this
      rw [key a ga, un_s]
      exact (up a ga).1
  · have : a = k := by omega
    subst this
    rcases Nat.lt_or_ge b a with gb | gb
    · rw [key b gb, un_s]
      have := up b gb
      exact ⟨fun z => absurd z this.2.1, fun z => absurd z this.2.2⟩
    · have : b = a := by omega
      subst this
      exact ⟨fun z => absurd z (Nat.lt_irrefl _), fun z => absurd z (Nat.lt_irrefl _)⟩
theorem so_NK {t : Nat → Nat} {n h : Nat} {s r : Nat → Nat} (hP : so_P n s) (hN : so_N (sv_n t n h) n s r) : rn_K t n h r := by
  intro i j hi hj
  obtain ⟨a, ha, rfl⟩ := hP.2 i hi
  obtain ⟨b, hb, rfl⟩ := hP.2 j hj
  exact hN a b ha hb
/-! the pattern as a number -/
def pv_n (p : Nat → Nat) (m : Nat) : Nat := dv_n (fun q => p q + 1) m
theorem pv_5 {p : Nat → Nat} (hp : l4_f p) (q : Nat) : (fun q => p q + 1) q < 5 := by
  have := hp q
  show p q + 1 < 5
  omega
theorem pv_oc {t p : Nat → Nat} (ht : l4_f t) (hp : l4_f p) {n m i : Nat} (hm : 1 ≤ m) : sv_n t n m i = pv_n p m ↔ oc_c t p n m i := by
  constructor
  · intro h
    have g := dv_inj (sc_5 ht n i) (pv_5 hp) m h
    have e : ∀ q, q < m → i + q < n ∧ t (i + q) = p q := by
      intro q hq
      have := g q hq
      unfold sc_l at this
      by_cases z : i + q < n
      · rw [if_pos z] at this
        exact ⟨z, Nat.succ.inj this⟩
      · rw [if_neg z] at this
        exact absurd this.symm (Nat.succ_ne_zero _)
    refine ⟨?_, fun k hk => (e k hk).2⟩
    have := (e (m - 1) (by omega)).1
    omega
  · intro ho
    apply dv_cong
    intro q hq
    unfold sc_l
    rw [if_pos (by have := ho.1; omega), ho.2 q hq]
theorem pv_lt {t p : Nat → Nat} (ht : l4_f t) {n m i k : Nat} (hk : k < m) (he : ∀ q, q < k → sc_l t n i q = p q + 1) (h : sc_l t n i k < p k + 1) : sv_n t n m i < pv_n p m := by
  obtain ⟨d, rfl⟩ : ∃ d, m = k + 1 + d := ⟨m - (k + 1), by omega⟩
  apply dv_up (sc_5 ht n i)
  show dv_n (sc_l t n i) k * 5 + sc_l t n i k < dv_n (fun q => p q + 1) k * 5 + (p k + 1)
  rw [dv_cong (f := sc_l t n i) (g := fun q => p q + 1) he]
  omega
theorem pv_gt {t p : Nat → Nat} (hp : l4_f p) {n m i k : Nat} (hk : k < m) (he : ∀ q, q < k → sc_l t n i q = p q + 1) (h : p k + 1 < sc_l t n i k) : pv_n p m < sv_n t n m i := by
  obtain ⟨d, rfl⟩ : ∃ d, m = k + 1 + d := ⟨m - (k + 1), by omega⟩
  apply dv_up (pv_5 hp)
  show dv_n (fun q => p q + 1) k * 5 + (p k + 1) < dv_n (sc_l t n i) k * 5 + sc_l t n i k
  rw [dv_cong (f := sc_l t n i) (g := fun q => p q + 1) he]
  omega
end
section
/-! engine 0: borders -/
section
variable {post : SX → Prop} {n m : Nat} {t p : Nat → Nat} {fd : Int64} {cp cq : Int32} {bo jo be sk su sh ma st so ra nr : Nat → Int32}
theorem mk_X {f_n f_m : Int32} {a_t a_p : Nat → Int32} {i : Nat} (h : post (f_n, f_m, (fd ||| ((1 : Int64) <<< ((nI i).toInt64 &&& 63))), cp, cq, a_t, a_p, bo, jo, be, sk, su, sh, ma, st, so, ra, nr)) : wpX_mark post (f_n, f_m, fd, cp, cq, a_t, a_p, bo, jo, be, sk, su, sh, ma, st, so, ra, nr) (nI i) := nm_e h
theorem e0_19 {J : _} {i : Nat} (hp : l4_f p) (hm : m ≤ 12) (hi : i < m) (hA : kb_A p bo i)
    (hJ : ∀ b', kb_B p (i + 1) b' → J (nI b') (nI (i + 1)) (ar_f t) (ar_f p) (upd bo (i + 1) (nI b')) jo be sk su sh ma st so ra nr) :
    ∀ N b', b' < N → b' ≤ i → kb_I p p i i b' → wX_findBorders_19 post J (nI i) (nI n) (nI m) fd cp cq (ar_f t) (ar_f p) bo jo be sk su sh ma st so ra nr N (mi_p b') := by
  intro N
  induction N with
  | zero => intro b' h; exact absurd h (Nat.not_lt_zero b')
  | succ N ih =>
    intro b' hN hb hI
    have fin : (∀ b, b' = b + 1 → p i = p b) → wX_findBorders_48 post J (mi_p b') (nI i) (nI n) (nI m) fd cp cq (ar_f t) (ar_f p) bo jo be sk su sh ma st so ra nr := by
      intro he
      have := hJ b' (kb_R_end hI hb he)
      simp only [wX_findBorders_48, forall_eq, mi_a, nI_1]
      rw [nI_clamp (by omega), bn_w (by omega)]
      exact ⟨vp_in_nI (by omega) (by omega), this⟩
    cases b' with
    | zero => exact br_t mi_neg (fin (fun b hb => by omega))
    | succ b =>
      rw [mi_s] at fin ⊢
      refine br_f (nI_pos (by omega)) ⟨vp_in_nI (by omega) (by omega), vp_in_nI (by omega) (by omega), ?_⟩
      rw [ar_at (by omega), ar_at (by omega), l4_eq hp hp]
      refine ⟨fun h => fin (fun c hc => ?_), fun h => ⟨vp_in_nI (by omega) (by omega), ?_⟩⟩
      · have : c = b := by omega
        subst this
        exact h.symm
      · obtain ⟨b'', e1, e2, e3⟩ := kb_I_down hI (fun _ g => h g.symm) hA (by omega)
        refine nm_r (e' := mi_p b'') ?_ (ih b'' (by omega) (by omega) e3)
        rw [nI_clamp (by omega), e1]
theorem e0_11 (hp : l4_f p) (hm : m ≤ 12) (H : ∀ bo', kb_A p bo' m → post ((nI n), (nI m), fd, cp, cq, (ar_f t), (ar_f p), bo', jo, be, sk, su, sh, ma, st, so, ra, nr)) :
    ∀ N i b' bo, m - i < N → i ≤ m → kb_R p i b' → kb_A p bo i → wX_findBorders_11 post (nI n) (nI m) fd cp cq N (mi_p b') (nI i) (ar_f t) (ar_f p) bo jo be sk su sh ma st so ra nr := by
  intro N
  induction N with
  | zero => intro i b' bo h; exact absurd h (Nat.not_lt_zero _)
  | succ N ih =>
    intro i b' bo hN hi hR hA
    refine pk_le m i (fun h => ?_) (fun h => ⟨i + 1, ?_⟩)
    · have : i = m := by omega
      subst this
      exact H bo hA
    · have hI := kb_R_I hR
      refine e0_19 hp hm h hA (fun c hc => ?_) (i + 1) b' (by omega) hI.2 hI.1
      have := ih (i + 1) (c + 1) (upd bo (i + 1) (nI c)) (by omega) (by omega) (Or.inr ⟨c, rfl, hc⟩) (kb_A_up hA hc)
      rw [mi_s] at this
      exact this
theorem e0_borders (hp : l4_f p) (hm : m ≤ 12) (H : ∀ bo', kb_A p bo' m → post ((nI n), (nI m), fd, cp, cq, (ar_f t), (ar_f p), bo', jo, be, sk, su, sh, ma, st, so, ra, nr)) : wpX_findBorders post ((nI n), (nI m), fd, cp, cq, (ar_f t), (ar_f p), bo, jo, be, sk, su, sh, ma, st, so, ra, nr) := by
  intro a ea
  subst ea
  rw [bn_m]
  have := e0_11 (n := n) (t := t) (fd := fd) (cp := cp) (cq := cq) (jo := jo) (be := be) (sk := sk) (su := su) (sh := sh) (ma := ma) (st := st) (so := so) (ra := ra) (nr := nr) hp hm H (m + 1) 0 0 (upd bo 0 (-1)) (by omega) (by omega) (Or.inl ⟨rfl, rfl⟩) ⟨by rw [pk_us, mi_0], fun k h1 h2 => by omega⟩
  rw [mi_0, nI_0] at this
  exact ⟨m + 1, this⟩
theorem e0_16 {J : _} {i : Nat} (ht : l4_f t) (hp : l4_f p) (hn : n ≤ 60) (hm : m ≤ 12) (hm1 : 1 ≤ m) (hi : i < n) (hA : kb_A p bo m) (hE : oc_E t p n m i fd)
    (hJ : ∀ b' fd', kb_M t p m (i + 1) b' → oc_E t p n m (i + 1) fd' → J (nI b') (nI (i + 1)) (nI n) (nI m) fd' cp cq (ar_f t) (ar_f p) bo jo be sk su sh ma st so ra nr) :
    ∀ N b', b' < N → b' ≤ m + 1 → kb_I t p i m b' → wX_searchByBorders_16 post J (nI i) (nI n) (nI m) fd cp cq (ar_f t) (ar_f p) bo jo be sk su sh ma st so ra nr N (mi_p b') := by
  intro N
  induction N with
  | zero => intro b' h; exact absurd h (Nat.not_lt_zero b')
  | succ N ih =>
    intro b' hN hb hI
    have fin : b' ≤ m → (∀ b, b' = b + 1 → t i = p b) → wX_searchByBorders_53 post J (mi_p b') (nI i) (nI n) (nI m) fd cp cq (ar_f t) (ar_f p) bo jo be sk su sh ma st so ra nr := by
      intro hbm he
      have hM := kb_M_end hI hbm he
      unfold wX_searchByBorders_53
      refine nm_r (mi_a b') ?_
      refine pk_eq b' m (fun h => ?_) (fun h => ?_)
      · rw [nI_1, pk_sub (by have := hM.2.1.1; omega)]
        refine mk_X ?_
        refine nm_e ?_
        subst h
        exact hJ b' _ hM (oc_Em hE hM.2.1.1 (by omega) hm1 (kb_M_oc hi hM))
      · exact nm_r (nI_1 i) (hJ b' fd hM (oc_En hE (kb_M_no hM h)))
    cases b' with
    | zero => exact br_t mi_neg (fin (Nat.zero_le m) (fun b hb => by omega))
    | succ b =>
      rw [mi_s] at fin ⊢
      have down : (b < m → t i ≠ p b) → ∀ y : Int32, y = bo (nI b).toNatClampNeg → wX_searchByBorders_16 post J (nI i) (nI n) (nI m) fd cp cq (ar_f t) (ar_f p) bo jo be sk su sh ma st so ra nr N y := by
        intro hno
        obtain ⟨b'', e1, e2, e3⟩ := kb_I_down hI hno hA (by omega)
        refine nm_r (e' := mi_p b'') ?_ (ih b'' (by omega) (by omega) e3)
        rw [nI_clamp (by omega), e1]
      refine br_f (nI_pos (by omega)) (pk_eq b m (fun h => ⟨vp_in_nI (by omega) (by omega), down (fun g => by omega)⟩) (fun h => ?_))
      refine ⟨vp_in_nI (by omega) (by omega), vp_in_nI (by omega) (by omega), ?_⟩
      rw [ar_at (by omega), ar_at (by omega), l4_eq hp ht]
      refine ⟨fun g => fin (by omega) (fun c hc => ?_), fun g => ⟨vp_in_nI (by omega) (by omega), down (fun _ z => g z.symm)⟩⟩
      have : c = b := by omega
      subst this
      exact g.symm
theorem e0_8 (ht : l4_f t) (hp : l4_f p) (hn : n ≤ 60) (hm : m ≤ 12) (hm1 : 1 ≤ m) (hA : kb_A p bo m) (H : ∀ fd', oc_A t p n m fd' → post ((nI n), (nI m), fd', cp, cq, (ar_f t), (ar_f p), bo, jo, be, sk, su, sh, ma, st, so, ra, nr)) :
    ∀ N i b fd, n - i < N → i ≤ n → kb_M t p m i b → oc_E t p n m i fd → wX_searchByBorders_8 post N (nI b) (nI i) (nI n) (nI m) fd cp cq (ar_f t) (ar_f p) bo jo be sk su sh ma st so ra nr := by
  intro N
  induction N with
  | zero => intro i b fd h; exact absurd h (Nat.not_lt_zero _)
  | succ N ih =>
    intro i b fd hN hi hM hE
    refine pk_le n i (fun h => ?_) (fun h => ⟨m + 2, ?_⟩)
    · have : i = n := by omega
      subst this
      exact H fd (oc_Ee hE)
    · have := hM.1
      have := e0_16 (post := post) (cp := cp) (cq := cq) (bo := bo) (jo := jo) (be := be) (sk := sk) (su := su) (sh := sh) (ma := ma) (st := st) (so := so) (ra := ra) (nr := nr) ht hp hn hm hm1 h hA hE (fun b' fd' hb' hf' => ih (i + 1) b' fd' (by omega) (by omega) hb' hf') (m + 2) (b + 1) (by omega) (by omega) (kb_M_I hM)
      rw [mi_s] at this
      exact this
theorem e0_end (hk : ok_s n m t p) (hm1 : 1 ≤ m) (hf : fd = 0) (H : eg_P post n m t p (oc_A t p n m)) : wpX_searchByBorders post ((nI n), (nI m), fd, cp, cq, (ar_f t), (ar_f p), bo, jo, be, sk, su, sh, ma, st, so, ra, nr) := by
  obtain ⟨hn, hm, ht, hp⟩ := hk
  subst hf
  unfold wpX_searchByBorders
  refine e0_borders hp hm (fun bo' hA => ⟨n + 1, ?_⟩)
  exact e0_8 ht hp hn hm hm1 hA (fun fd' h => H _ _ _ _ _ _ _ _ _ _ _ _ _ _ h) (n + 1) 0 0 0 (by omega) (by omega) kb_M0 (oc_E0 hm1)
end
end
section
/-! engine 1: what each place has in common with the beginning -/
def zd_A (t p : Nat → Nat) (m I : Nat) (jo : Nat → Int32) : Prop := ∀ q, q < I → jo q = nI (zd_J t p m q)
theorem zd_As {t p : Nat → Nat} {m I : Nat} {jo : Nat → Int32} (h : zd_A t p m I jo) {v : Nat} (hv : v = zd_J t p m I) : zd_A t p m (I + 1) (upd jo I (nI v)) := by
  intro q hq
  by_cases e : q = I
  · subst e; rw [pk_us, hv]
  · rw [pk_un e]; exact h q (by omega)
def zd_E (s : Nat → Nat) (L I : Nat) (be : Nat → Int32) : Prop := ∀ k, 1 ≤ k → k < I → ∃ z, be k = nI z ∧ zd_L s L k z
theorem zd_Es {s : Nat → Nat} {L I z : Nat} {be : Nat → Int32} (h : zd_E s L I be) (hz : zd_L s L I z) : zd_E s L (I + 1) (upd be I (nI z)) := by
  intro k h1 hk
  by_cases e : k = I
  · subst e; exact ⟨z, pk_us, hz⟩
  · rw [pk_un e]; exact h k h1 (by omega)
section
variable {post : SX → Prop} {n m : Nat} {t p : Nat → Nat} {fd : Int64} {cp cq : Int32} {bo jo be sk su sh ma st so ra nr : Nat → Int32}
theorem e1_180 {J : _} {L i l r z : Nat} (hL : L ≤ 73) (h1 : 1 ≤ i) (hi : i < L) (hB : zd_B (zd_J t p m) L i l r) (hE : zd_E (zd_J t p m) L i be) (hz : zd_L (zd_J t p m) L i z)
    (hJ : ∀ l r be', zd_B (zd_J t p m) L (i + 1) l r → zd_E (zd_J t p m) L (i + 1) be' → J (nI l) (nI r) (nI (i + 1)) (ar_f t) (ar_f p) bo jo be' sk su sh ma st so ra nr) :
    wX_findBeginnings_180 post J (nI L) (nI l) (nI r) (nI i) (nI z) (nI n) (nI m) fd cp cq (ar_f t) (ar_f p) bo jo be sk su sh ma st so ra nr := by
  have z1 := hz.1
  have z2 := hB.1
  unfold wX_findBeginnings_180
  refine ⟨vp_in_nI (by omega) (by omega), ?_⟩
  rw [nI_clamp (by omega), bn_w (by omega), nI_add, nI_1]
  refine nm_e (pk_le (i + z) r (fun h => nm_e ?_) (fun h => nm_e (nm_e ?_)))
  · exact hJ l r _ (zd_Bs hB) (zd_Es hE hz)
  · exact hJ i (i + z) _ (zd_Bn h1 hz) (zd_Es hE hz)
theorem e1_145 {J : _} {L i l r : Nat} (ht : l4_f t) (hp : l4_f p) (hL : L ≤ 73) (h1 : 1 ≤ i) (hi : i < L) (hjo : zd_A t p m L jo) (hB : zd_B (zd_J t p m) L i l r) (hE : zd_E (zd_J t p m) L i be)
    (hJ : ∀ l r be', zd_B (zd_J t p m) L (i + 1) l r → zd_E (zd_J t p m) L (i + 1) be' → J (nI l) (nI r) (nI (i + 1)) (ar_f t) (ar_f p) bo jo be' sk su sh ma st so ra nr) :
    ∀ N z, L - (i + z) < N → (i + z ≤ L ∧ ∀ q, q < z → zd_J t p m q = zd_J t p m (i + q)) → wX_findBeginnings_145 post J (nI L) (nI l) (nI r) (nI i) (nI n) (nI m) fd cp cq (ar_f t) (ar_f p) bo jo be sk su sh ma st so ra nr N (nI z) := by
  intro N
  induction N with
  | zero => intro z h; exact absurd h (Nat.not_lt_zero _)
  | succ N ih =>
    intro z hN hz
    rw [wX_findBeginnings_145]
    dsimp only
    rw [nI_add]
    refine pk_le L (i + z) (fun h => ?_) (fun h => ⟨vp_in_nI (by omega) (by omega), vp_in_nI (by omega) (by omega), ?_⟩)
    · exact e1_180 hL h1 hi hB hE ⟨hz.1, hz.2, fun g => by omega⟩ hJ
    · rw [nI_clamp (by omega), nI_clamp (by omega), hjo z (by omega), hjo (i + z) h, nI_1]
      have a := zd_J5 (m := m) ht hp z
      have b := zd_J5 (m := m) ht hp (i + z)
      refine pk_eq (zd_J t p m z) (zd_J t p m (i + z)) (fun g => nm_e ?_) (fun g => ?_)
      · refine ih (z + 1) (by omega) ⟨by omega, fun q hq => ?_⟩
        by_cases e : q = z
        · subst e; exact g
        · exact hz.2 q (by omega)
      · exact e1_180 hL h1 hi hB hE ⟨hz.1, hz.2, fun _ => g⟩ hJ
theorem e1_99 {L : Nat} (ht : l4_f t) (hp : l4_f p) (hL : L ≤ 73) (hjo : zd_A t p m L jo) (H : ∀ be', zd_E (zd_J t p m) L L be' → post ((nI n), (nI m), fd, cp, cq, (ar_f t), (ar_f p), bo, jo, be', sk, su, sh, ma, st, so, ra, nr)) :
    ∀ N i l r be, L - i < N → 1 ≤ i → i ≤ L → zd_B (zd_J t p m) L i l r → zd_E (zd_J t p m) L i be → wX_findBeginnings_99 post (nI L) (nI n) (nI m) fd cp cq N (nI l) (nI r) (nI i) (ar_f t) (ar_f p) bo jo be sk su sh ma st so ra nr := by
  intro N
  induction N with
  | zero => intro i l r be h; exact absurd h (Nat.not_lt_zero _)
  | succ N ih =>
    intro i l r be hN h1 hi hB hE
    have b1 := hB.1
    have b2 := hB.2.1
    have go : ∀ z, (i < L) → (i + z ≤ L ∧ ∀ q, q < z → zd_J t p m q = zd_J t p m (i + q)) → ∃ n145, wX_findBeginnings_145 post (wX_findBeginnings_99 post (nI L) (nI n) (nI m) fd cp cq N) (nI L) (nI l) (nI r) (nI i) (nI n) (nI m) fd cp cq (ar_f t) (ar_f p) bo jo be sk su sh ma st so ra nr n145 (nI z) := by
      intro z hiL hz
      exact ⟨L + 1, e1_145 ht hp hL h1 hiL hjo hB hE (fun l r be' hB' hE' => ih (i + 1) l r be' (by omega) (by omega) (by omega) hB' hE') (L + 1) z (by omega) hz⟩
    rw [wX_findBeginnings_99]
    dsimp only
    refine pk_le L i (fun h => ?_) (fun h => ?_)
    · have : i = L := by omega
      subst this
      exact H be hE
    · refine pk_le r i (fun g => ?_) (fun g => ?_)
      · exact go 0 h ⟨by omega, fun q hq => absurd hq (Nat.not_lt_zero q)⟩
      · rw [pk_sub (by omega), pk_sub (by omega), nI_clamp (by omega)]
        obtain ⟨k, k1, k2⟩ := hE (i - l) (by omega) (by have := hB.2.2.1 g; omega)
        have k3 := k2.1
        refine ⟨vp_in_nI (by omega) (by omega), nm_r k1 (pk_le (r - i) k (fun z => nm_e ?_) (fun z => ?_))⟩
        · exact go (r - i) h (zd_ini hB g k2 z (Nat.le_refl _))
        · exact go k h (zd_ini hB g k2 (Nat.le_refl _) (by omega))
theorem e1_52 {L : Nat} (ht : l4_f t) (hn : n ≤ 60) (hm : m ≤ 12) (H : ∀ jo', zd_A t p m (m + 1 + n) jo' → ∃ N, wX_findBeginnings_99 post (nI L) (nI n) (nI m) fd cp cq N 0 0 1 (ar_f t) (ar_f p) bo jo' (upd be 0 0) sk su sh ma st so ra nr) :
    ∀ N i jo, n - i < N → i ≤ n → zd_A t p m (m + 1 + i) jo → wX_findBeginnings_52 post (nI L) (nI n) (nI m) fd cp cq N (nI i) (ar_f t) (ar_f p) bo jo be sk su sh ma st so ra nr := by
  intro N
  induction N with
  | zero => intro i jo h; exact absurd h (Nat.not_lt_zero _)
  | succ N ih =>
    intro i jo hN hi hA
    rw [wX_findBeginnings_52]
    dsimp only
    refine pk_le n i (fun h => ?_) (fun h => ⟨vp_in_nI (by omega) (by omega), ?_⟩)
    · have : i = n := by omega
      subst this
      exact nm_r (by rw [show vp_nar .byte 0 = (0 : Int32) from bn_v (v := 0) (by omega)]) (H jo hA)
    · rw [nI_1, nI_add, ar_at (by omega), l4_v ht, nI_clamp (by omega), nI_1]
      refine ⟨vp_in_nI (by omega) (by omega), nm_e (nm_e ?_)⟩
      exact ih (i + 1) _ (by omega) (by omega) (zd_As hA zd_Jt.symm)
theorem e1_14 {L : Nat} (hp : l4_f p) (hm : m ≤ 12) (H : ∀ jo', zd_A t p m (m + 1) jo' → ∃ N, wX_findBeginnings_52 post (nI L) (nI n) (nI m) fd cp cq N 0 (ar_f t) (ar_f p) bo jo' be sk su sh ma st so ra nr) :
    ∀ N i jo, m - i < N → i ≤ m → zd_A t p m i jo → wX_findBeginnings_14 post (nI L) (nI n) (nI m) fd cp cq N (nI i) (ar_f t) (ar_f p) bo jo be sk su sh ma st so ra nr := by
  intro N
  induction N with
  | zero => intro i jo h; exact absurd h (Nat.not_lt_zero _)
  | succ N ih =>
    intro i jo hN hi hA
    rw [wX_findBeginnings_14]
    dsimp only
    refine pk_le m i (fun h => ⟨vp_in_nI (by omega) (by omega), ?_⟩) (fun h => ⟨vp_in_nI (by omega) (by omega), vp_in_nI (by omega) (by omega), ?_⟩)
    · have : i = m := by omega
      subst this
      rw [nI_clamp (by omega), show vp_nar .byte 4 = nI 4 from bn_v (v := 4) (by omega)]
      exact nm_e (H _ (zd_As hA zd_Jm.symm))
    · rw [ar_at (by omega), l4_v hp, nI_clamp (by omega), nI_1]
      exact nm_e (nm_e (ih (i + 1) _ (by omega) (by omega) (zd_As hA (zd_Jp h).symm)))
/-- findBeginnings -/
theorem e1_find (hk : ok_s n m t p) (H : ∀ jo' be', (∀ i, i < n → ∃ z, be' (m + 1 + i) = nI z ∧ zd_C t p n m i z) → post ((nI n), (nI m), fd, cp, cq, (ar_f t), (ar_f p), bo, jo', be', sk, su, sh, ma, st, so, ra, nr)) : wpX_findBeginnings post ((nI n), (nI m), fd, cp, cq, (ar_f t), (ar_f p), bo, jo, be, sk, su, sh, ma, st, so, ra, nr) := by
  obtain ⟨hn, hm, ht, hp⟩ := hk
  have e : (nI m + 1) + nI n = nI (m + 1 + n) := by rw [nI_1, nI_add]
  refine nm_r e ⟨m + 1, ?_⟩
  refine e1_14 hp hm (fun jo' h1 => ⟨n + 1, ?_⟩) (m + 1) 0 jo (by omega) (by omega) (fun q hq => absurd hq (Nat.not_lt_zero q))
  refine e1_52 ht hn hm (fun jo' h2 => ⟨m + 1 + n + 1, ?_⟩) (n + 1) 0 jo' (by omega) (by omega) h1
  refine e1_99 ht hp (by omega) h2 (fun be' h3 => H jo' be' (fun i hi => ?_)) (m + 1 + n + 1) 1 0 0 _ (by omega) (by omega) (by omega) zd_B0 (fun k k1 k2 => by omega)
  obtain ⟨z, z1, z2⟩ := h3 (m + 1 + i) (by omega) (by omega)
  exact ⟨z, z1, zd_LC ht z2⟩
theorem e1_6 (hn : n ≤ 60) (hm : m ≤ 12) (hm1 : 1 ≤ m) (hE : ∀ i, i < n → ∃ z, be (m + 1 + i) = nI z ∧ zd_C t p n m i z) (H : ∀ fd', oc_A t p n m fd' → post ((nI n), (nI m), fd', cp, cq, (ar_f t), (ar_f p), bo, jo, be, sk, su, sh, ma, st, so, ra, nr)) :
    ∀ N i fd, n + 1 - i < N → i ≤ n → oc_B t p n m i fd → wX_searchByBeginnings_6 post N (nI i) (nI n) (nI m) fd cp cq (ar_f t) (ar_f p) bo jo be sk su sh ma st so ra nr := by
  intro N
  induction N with
  | zero => intro i fd h; exact absurd h (Nat.not_lt_zero _)
  | succ N ih =>
    intro i fd hN hi hB
    rw [wX_searchByBeginnings_6]
    dsimp only
    rw [nI_add, nI_1, nI_add]
    refine pk_lt n (i + m) (fun h => ?_) (fun h => ⟨vp_in_nI (by omega) (by omega), ?_⟩)
    · exact H fd (oc_end hB h)
    · obtain ⟨z, z1, z2⟩ := hE i (by omega)
      rw [nI_clamp (by omega), z1, nI_1]
      have z3 := z2.2.1
      refine pk_eq z m (fun g => ?_) (fun g => nm_e ?_)
      · refine mk_X ?_
        exact nm_e (ih (i + 1) _ (by omega) (by omega) (oc_set hB (by omega) ((zd_Coc h z2).mp g)))
      · refine ih (i + 1) fd (by omega) (by omega) (oc_skip hB (by omega) (fun j j1 j2 ho => ?_))
        have : j = i := by omega
        subst this
        exact g ((zd_Coc h z2).mpr ho)
theorem e1_end (hk : ok_s n m t p) (hm1 : 1 ≤ m) (hf : fd = 0) (H : eg_P post n m t p (oc_A t p n m)) : wpX_searchByBeginnings post ((nI n), (nI m), fd, cp, cq, (ar_f t), (ar_f p), bo, jo, be, sk, su, sh, ma, st, so, ra, nr) := by
  subst hf
  unfold wpX_searchByBeginnings
  refine e1_find hk (fun jo' be' hE => ⟨n + 2, ?_⟩)
  obtain ⟨hn, hm, ht, hp⟩ := hk
  exact e1_6 hn hm hm1 hE (fun fd' h => H _ _ _ _ _ _ _ _ _ _ _ _ _ _ h) (n + 2) 0 0 (by omega) (by omega) oc_B0
end
end
section
/-! engine 2: from the end -/
theorem mi_t {b : Nat} (h : b < 2 ^ 31) : (mi_p b).toInt = (b : Int) - 1 := by
  cases b with
  | zero => decide
  | succ b => rw [mi_s, nI_toInt (by omega)]; omega
theorem mi_le {i g : Nat} (hi : i < 2 ^ 31) (hg : g < 2 ^ 31) : nI i ≤ mi_p g ↔ i < g := by
  rw [Int32.le_iff_toInt_le, nI_toInt hi, mi_t hg]; omega
theorem mi_el {i g : Nat} (hi : i < 2 ^ 31) (hg : g < 2 ^ 31) : mi_p g ≤ nI i ↔ g ≤ i + 1 := by
  rw [Int32.le_iff_toInt_le, nI_toInt hi, mi_t hg]; omega
theorem mi_ll {a b : Nat} (ha : a < 2 ^ 31) (hb : b < 2 ^ 31) : mi_p a ≤ mi_p b ↔ a ≤ b := by
  rw [Int32.le_iff_toInt_le, mi_t ha, mi_t hb]; omega
theorem mi_lt {a b : Nat} (ha : a < 2 ^ 31) (hb : b < 2 ^ 31) : mi_p a < mi_p b ↔ a < b := by
  rw [Int32.lt_iff_toInt_lt, mi_t ha, mi_t hb]; omega
theorem mi_eq {a b : Nat} (ha : a < 2 ^ 31) (hb : b < 2 ^ 31) : mi_p a = mi_p b ↔ a = b := by
  rw [← Int32.toInt_inj, mi_t ha, mi_t hb]; omega
theorem mi_sub {i g : Nat} (h : g ≤ i + 1) : nI i - mi_p g = nI (i + 1 - g) := by
  rw [← pk_sub h, ← nI_1]
  unfold mi_p
  grind
theorem e2_by {d m i : Nat} : ((nI d - nI m) + 1) + nI i = nI (d + 1 + i) - nI m := by
  rw [← nI_add, ← nI_1]
  grind
theorem sk_ch {m : Nat} {P : Nat → Nat → Prop} (h : ∀ q, q < m → ∃ k, P q k) : ∃ f : Nat → Nat, ∀ q, q < m → P q (f q) := by
  refine ⟨fun q => if g : q < m then Classical.choose (h q g) else 0, fun q hq => ?_⟩
  have e : (if g : q < m then Classical.choose (h q g) else 0) = Classical.choose (h q hq) := dif_pos hq
  show P q (if g : q < m then Classical.choose (h q g) else 0)
  rw [e]
  exact Classical.choose_spec (h q hq)
/-- the table of common endings, from I on -/
def bm_U (p : Nat → Nat) (m I : Nat) (su : Nat → Int32) : Prop := ∀ q, I ≤ q → q < m → ∃ k, su q = nI k ∧ bm_S p m q k
theorem bm_Us {p : Nat → Nat} {m i k : Nat} {su : Nat → Int32} (h : bm_U p m (i + 1) su) (hk : bm_S p m i k) : bm_U p m i (upd su i (nI k)) := by
  intro q h1 h2
  by_cases e : q = i
  · subst e; exact ⟨k, pk_us, hk⟩
  · rw [pk_un e]; exact h q (by omega) h2
section
variable {post : SX → Prop} {n m : Nat} {t p : Nat → Nat} {fd : Int64} {cp cq : Int32} {bo jo be sk su sh ma st so ra nr : Nat → Int32}
theorem e2_104 {J : _} {i : Nat} (hp : l4_f p) (hm : m ≤ 12) (hi : i + 1 < m)
    (hJ : ∀ g k, g ≤ i + 1 → bm_G p m i g i → bm_S p m i k → J (mi_p g) (nI i) (mi_p i) (ar_f t) (ar_f p) bo jo be sk (upd su i (nI k)) sh ma st so ra nr) :
    ∀ N g, g < N → g ≤ i + 1 → bm_G p m i g i → wX_findSuffixes_104 post J (nI i) (nI i) (nI n) (nI m) fd cp cq (ar_f t) (ar_f p) bo jo be sk su sh ma st so ra nr N (mi_p g) := by
  intro N
  induction N with
  | zero => intro g h; exact absurd h (Nat.not_lt_zero _)
  | succ N ih =>
    intro g hN hg hG
    have fin : (∀ j, g = j + 1 → p j ≠ p (j + (m - 1) - i)) → wX_findSuffixes_138 post J (mi_p g) (nI i) (nI i) (nI n) (nI m) fd cp cq (ar_f t) (ar_f p) bo jo be sk su sh ma st so ra nr := by
      intro he
      unfold wX_findSuffixes_138
      rw [mi_sub hg, bn_w (by omega), nI_clamp (by omega)]
      exact ⟨vp_in_nI (by omega) (by omega), nm_e (nm_r (mi_m i) (hJ g _ hg hG (bm_stop hG he hi)))⟩
    cases g with
    | zero => exact br_t mi_neg (fin (fun j hj => by omega))
    | succ g =>
      rw [mi_s] at fin ⊢
      rw [wX_findSuffixes_104]
      dsimp only
      rw [nI_add, s1_n (by omega), pk_sub (by omega)]
      refine br_f (nI_pos (by omega)) ⟨vp_in_nI (by omega) (by omega), vp_in_nI (by omega) (by omega), ?_⟩
      rw [ar_at (by omega), ar_at (by omega), l4_eq hp hp, show g + m - 1 - i = g + (m - 1) - i by omega]
      refine ⟨fun h => nm_r (mi_m g) (ih g (by omega) (by omega) (bm_step hG h hi)), fun h => fin (fun j hj => ?_)⟩
      have : j = g := by omega
      subst this
      exact h
theorem e2_91 {J : _} {i g : Nat} (hp : l4_f p) (hm : m ≤ 12) (hi : i + 1 < m) (hg : g ≤ 12) (hG : g ≤ i → bm_G p m i g i)
    (hJ : ∀ g k, g ≤ i + 1 → bm_G p m i g i → bm_S p m i k → J (mi_p g) (nI i) (mi_p i) (ar_f t) (ar_f p) bo jo be sk (upd su i (nI k)) sh ma st so ra nr) :
    wX_findSuffixes_91 post J (mi_p g) (nI i) (nI n) (nI m) fd cp cq (ar_f t) (ar_f p) bo jo be sk su sh ma st so ra nr := by
  unfold wX_findSuffixes_91
  rw [mi_el (by omega) (by omega)]
  refine ⟨fun h => ⟨g + 1, e2_104 hp hm hi hJ (g + 1) g (by omega) h ?_⟩, fun h => ⟨i + 2, ?_⟩⟩
  · rcases Nat.lt_or_ge i g with z | z
    · have : g = i + 1 := by omega
      subst this
      exact bm_ini0 hi
    · exact hG z
  · have := e2_104 (post := post) (n := n) (t := t) (fd := fd) (cp := cp) (cq := cq) (bo := bo) (jo := jo) (be := be) (sk := sk) (sh := sh) (ma := ma) (st := st) (so := so) (ra := ra) (nr := nr) hp hm hi hJ (i + 2) (i + 1) (by omega) (by omega) (bm_ini0 hi)
    rw [mi_s] at this
    exact this
theorem e2_37 (hp : l4_f p) (hm : m ≤ 12) (H : ∀ su', bm_U p m 0 su' → post ((nI n), (nI m), fd, cp, cq, (ar_f t), (ar_f p), bo, jo, be, sk, su', sh, ma, st, so, ra, nr)) :
    ∀ N I g f su, I < N → I + 1 ≤ m → g ≤ m → bm_G p m I g f → (f = m - 1 → g = m) → bm_U p m I su → wX_findSuffixes_37 post (nI n) (nI m) fd cp cq N (mi_p g) (nI f) (mi_p I) (ar_f t) (ar_f p) bo jo be sk su sh ma st so ra nr := by
  intro N
  induction N with
  | zero => intro I g f su h; exact absurd h (Nat.not_lt_zero _)
  | succ N ih =>
    intro I g f su hN hI hg hG hfm hU
    cases I with
    | zero => exact br_t mi_neg (H su hU)
    | succ i =>
      have J : ∀ g k, g ≤ i + 1 → bm_G p m i g i → bm_S p m i k → wX_findSuffixes_37 post (nI n) (nI m) fd cp cq N (mi_p g) (nI i) (mi_p i) (ar_f t) (ar_f p) bo jo be sk (upd su i (nI k)) sh ma st so ra nr :=
        fun g k h1 h2 h3 => ih i g i _ (by omega) (by omega) (by omega) h2 (fun z => by omega) (bm_Us hU h3)
      have g1 := hG.1
      have g2 := hG.2.1
      rw [mi_s]
      rw [wX_findSuffixes_37]
      dsimp only
      refine br_f (nI_pos (by omega)) ?_
      rw [mi_le (by omega) (by omega)]
      refine ⟨fun h => e2_91 hp hm (by omega) (by omega) (fun z => by omega) J, fun h => ?_⟩
      have hf : f < m - 1 := by
        rcases Nat.lt_or_ge f (m - 1) with z | z
        · exact z
        · have := hfm (by omega); omega
      rw [nI_add, s1_n (by omega), pk_sub (by omega), mi_sub (by omega), nI_clamp (by omega)]
      obtain ⟨k, k1, k2⟩ := hU (i + m - 1 - f) (by omega) (by omega)
      have k3 := k2.1
      rw [show i + m - 1 - f = i + (m - 1) - f by omega] at k1 k2 ⊢
      rw [k1, bn_v (by omega), nI_clamp (by omega)]
      refine ⟨vp_in_nI (by omega) (by omega), pk_le (i + 1 - g) k (fun z => ?_) (fun z => ⟨vp_in_nI (by omega) (by omega), vp_in_nI (by omega) (by omega), nm_e (nm_r (mi_m i) ?_)⟩)⟩
      · exact e2_91 hp hm (by omega) (by omega) (fun _ => bm_ini hG (by omega) k2 z (by omega)) J
      · exact ih i g f _ (by omega) (by omega) hg (bm_Gs hG) hfm (bm_Us hU (bm_copy hG (by omega) k2 z (by omega)))
theorem e2_suf (hp : l4_f p) (hm : m ≤ 12) (hm1 : 1 ≤ m) (H : ∀ su', bm_U p m 0 su' → post ((nI n), (nI m), fd, cp, cq, (ar_f t), (ar_f p), bo, jo, be, sk, su', sh, ma, st, so, ra, nr)) : wpX_findSuffixes post ((nI n), (nI m), fd, cp, cq, (ar_f t), (ar_f p), bo, jo, be, sk, su, sh, ma, st, so, ra, nr) := by
  unfold wpX_findSuffixes
  dsimp only
  rw [s1_n hm1, nI_clamp (by omega), bn_w (by omega)]
  refine ⟨vp_in_nI (by omega) (by omega), nm_e (nm_e (nm_e ?_))⟩
  have e : nI m - 2 = mi_p (m - 1) := by
    obtain ⟨k, rfl⟩ : ∃ k, m = k + 1 := ⟨m - 1, by omega⟩
    rw [Nat.add_sub_cancel, ← nI_1]
    unfold mi_p
    grind
  refine nm_r e ⟨m, ?_⟩
  have := e2_37 (n := n) (t := t) (fd := fd) (cp := cp) (cq := cq) (bo := bo) (jo := jo) (be := be) (sk := sk) (sh := sh) (ma := ma) (st := st) (so := so) (ra := ra) (nr := nr) hp hm H m (m - 1) m (m - 1) (upd su (m - 1) (nI m)) (by omega) (by omega) (by omega) ⟨Nat.le_refl _, Nat.le_refl _, by omega, fun q hq => by omega⟩ (fun _ => rfl) (fun q h1 h2 => by
    have : q = m - 1 := by omega
    subst this
    exact ⟨m, pk_us, bm_last hm1⟩)
  have e2 : mi_p m = nI (m - 1) := by
    obtain ⟨k, rfl⟩ : ∃ k, m = k + 1 := ⟨m - 1, by omega⟩
    rw [mi_s, Nat.add_sub_cancel]
  rw [e2] at this
  exact this
/-! findShifts -/
theorem e2_188 (hp : l4_f p) (hm : m ≤ 12) (hm1 : 1 ≤ m) (H : ∀ sk', sk_T p (m - 1) (m - 1) sk' → post ((nI n), (nI m), fd, cp, cq, (ar_f t), (ar_f p), bo, jo, be, sk', su, sh, ma, st, so, ra, nr)) :
    ∀ N i sk, m - i < N → i ≤ m - 1 → sk_T p (m - 1) i sk → wX_findShifts_188 post (nI n) (nI m) fd cp cq N (nI i) (ar_f t) (ar_f p) bo jo be sk su sh ma st so ra nr := by
  intro N
  induction N with
  | zero => intro i sk h; exact absurd h (Nat.not_lt_zero _)
  | succ N ih =>
    intro i sk hN hi hT
    rw [wX_findShifts_188]
    dsimp only
    rw [s1_n hm1]
    refine pk_le (m - 1) i (fun h => ?_) (fun h => ⟨vp_in_nI (by omega) (by omega), ?_⟩)
    · have : i = m - 1 := by omega
      subst this
      exact H sk hT
    · rw [ar_at (by omega), l4_cl hp, pk_sub (by omega), bn_w (by omega), nI_1]
      exact ⟨l4_in hp _, nm_e (nm_e (ih (i + 1) _ (by omega) (by omega) (sk_s hT h)))⟩
theorem e2_164 (hm : m ≤ 12) (H : ∀ sk', (∀ c, c < 4 → sk' c = nI m) → ∃ N, wX_findShifts_188 post (nI n) (nI m) fd cp cq N 0 (ar_f t) (ar_f p) bo jo be sk' su sh ma st so ra nr) :
    ∀ N i sk, 4 - i < N → i ≤ 4 → (∀ c, c < i → sk c = nI m) → wX_findShifts_164 post (nI n) (nI m) fd cp cq N (nI i) (ar_f t) (ar_f p) bo jo be sk su sh ma st so ra nr := by
  intro N
  induction N with
  | zero => intro i sk h; exact absurd h (Nat.not_lt_zero _)
  | succ N ih =>
    intro i sk hN hi hT
    rw [wX_findShifts_164]
    dsimp only
    refine pk_le 4 i (fun h => ?_) (fun h => ⟨vp_in_nI (by omega) (by omega), ?_⟩)
    · exact H sk (fun c hc => hT c (by omega))
    · rw [nI_clamp (by omega), bn_w (by omega), nI_1]
      refine nm_e (nm_e (ih (i + 1) _ (by omega) (by omega) (fun c hc => ?_)))
      by_cases e : c = i
      · subst e; exact pk_us
      · rw [pk_un e]; exact hT c (by omega)
theorem e2_119 {f h2 : Nat → Nat} {J : Nat} (hm : m ≤ 12) (hm1 : 1 ≤ m) (hf : ∀ q, q < m → su q = nI (f q) ∧ bm_S p m q (f q)) (HH : bm_H p m 0 J h2)
    (H : ∀ sh' h, (∀ j, j < m → sh' j = nI (h j)) → bm_Q m (m - 1) f h2 h → ∃ N, wX_findShifts_164 post (nI n) (nI m) fd cp cq N 0 (ar_f t) (ar_f p) bo jo be sk su sh' ma st so ra nr) :
    ∀ N i sh h, m - i < N → i ≤ m - 1 → (∀ j, j < m → sh j = nI (h j)) → bm_Q m i f h2 h → wX_findShifts_119 post (nI n) (nI m) fd cp cq N (nI i) (ar_f t) (ar_f p) bo jo be sk su sh ma st so ra nr := by
  intro N
  induction N with
  | zero => intro i sh h z; exact absurd z (Nat.not_lt_zero _)
  | succ N ih =>
    intro i sh h hN hi hs hQ
    rw [wX_findShifts_119]
    dsimp only
    rw [s1_n hm1]
    refine pk_le (m - 1) i (fun z => ?_) (fun z => ⟨vp_in_nI (by omega) (by omega), ?_⟩)
    · have : i = m - 1 := by omega
      subst this
      exact H sh h hs hQ
    · have a := hf i (by omega)
      have b := a.2.1
      rw [nI_clamp (by omega), a.1, pk_sub (by omega), pk_sub (by omega), bn_w (by omega), nI_1, nI_clamp (by omega)]
      refine ⟨vp_in_nI (by omega) (by omega), nm_e (nm_e (ih (i + 1) _ (un_f h (m - 1 - f i) (m - 1 - i)) (by omega) (by omega) (fun j hj => ?_) (bm_Q_s HH hQ (by omega) b)))⟩
      by_cases e : j = m - 1 - f i
      · subst e; rw [pk_us, un_s]
      · rw [pk_un e, un_n e]; exact hs j hj
theorem e2_56 {K : _} {i : Nat} (hm : m ≤ 12) (hi : i < m)
    (hK : ∀ J sh' h, (∀ j, j < m → sh' j = nI (h j)) → bm_H p m (i + 1) J h → m - 1 - i ≤ J → K (nI J) (mi_p i) (ar_f t) (ar_f p) bo jo be sk su sh' ma st so ra nr) :
    ∀ N J sh h, m - J < N → (∀ j, j < m → sh j = nI (h j)) → bm_H p m (i + 1) J h → wX_findShifts_56 post K (nI i) (nI n) (nI m) fd cp cq N (nI J) (ar_f t) (ar_f p) bo jo be sk su sh ma st so ra nr := by
  intro N
  induction N with
  | zero => intro J sh h z; exact absurd z (Nat.not_lt_zero _)
  | succ N ih =>
    intro J sh h hN hs hH
    have hJ := hH.1
    rw [wX_findShifts_56]
    dsimp only
    rw [s1_n (by omega), pk_sub (by omega)]
    refine pk_le (m - 1 - i) J (fun z => nm_r (mi_m i) (hK J sh h hs hH z)) (fun z => ⟨vp_in_nI (by omega) (by omega), ?_⟩)
    have e1 := hs J (by omega)
    have e2 := hH.2.2.2.1 J (Nat.le_refl J) (by omega)
    rw [nI_clamp (by omega), e1, e2, bn_w (by omega), nI_1]
    refine br_t rfl ⟨vp_in_nI (by omega) (by omega), nm_e (nm_e (ih (J + 1) _ (un_f h J (m - 1 - i)) (by omega) (fun j hj => ?_) ?_))⟩
    · by_cases e : j = J
      · subst e; rw [pk_us, un_s]
      · rw [pk_un e, un_n e]; exact hs j hj
    · have := bm_H_step hH (by omega) (by omega)
      rw [show m - (i + 1) = m - 1 - i by omega] at this
      exact this
theorem e2_40 {f : Nat → Nat} (hm : m ≤ 12) (hm1 : 1 ≤ m) (hf : ∀ q, q < m → su q = nI (f q) ∧ bm_S p m q (f q))
    (H : ∀ J sh' h, (∀ j, j < m → sh' j = nI (h j)) → bm_H p m 0 J h → ∃ N, wX_findShifts_119 post (nI n) (nI m) fd cp cq N 0 (ar_f t) (ar_f p) bo jo be sk su sh' ma st so ra nr) :
    ∀ N I J sh h, I < N → I ≤ m → (∀ j, j < m → sh j = nI (h j)) → bm_H p m I J h → wX_findShifts_40 post (nI n) (nI m) fd cp cq N (nI J) (mi_p I) (ar_f t) (ar_f p) bo jo be sk su sh ma st so ra nr := by
  intro N
  induction N with
  | zero => intro I J sh h z; exact absurd z (Nat.not_lt_zero _)
  | succ N ih =>
    intro I J sh h hN hI hs hH
    cases I with
    | zero => exact br_t mi_neg (H J sh h hs hH)
    | succ i =>
      have a := hf i (by omega)
      have b := a.2.1
      rw [mi_s]
      rw [wX_findShifts_40]
      dsimp only
      rw [nI_clamp (by omega), a.1, nI_1]
      refine br_f (nI_pos (by omega)) ⟨vp_in_nI (by omega) (by omega), pk_eq (f i) (i + 1) (fun z => ⟨m + 1, ?_⟩) (fun z => ?_)⟩
      · exact e2_56 hm (by omega) (fun J' sh' h' h1 h2 h3 => ih i J' sh' h' (by omega) (by omega) h1 (bm_H_y h2 h3)) (m + 1) J sh h (by omega) hs hH
      · exact nm_r (mi_m i) (ih i J sh h (by omega) (by omega) hs (bm_H_n hH (by omega) a.2 z))
theorem e2_6s (hm : m ≤ 12) (hm1 : 1 ≤ m) (H : ∀ sh', (∀ j, j < m → sh' j = nI m) → ∃ N, wX_findShifts_40 post (nI n) (nI m) fd cp cq N 0 (nI (m - 1)) (ar_f t) (ar_f p) bo jo be sk su sh' ma st so ra nr) :
    ∀ N i sh, m - i < N → i ≤ m → (∀ j, j < i → sh j = nI m) → wX_findShifts_6 post (nI n) (nI m) fd cp cq N (nI i) (ar_f t) (ar_f p) bo jo be sk su sh ma st so ra nr := by
  intro N
  induction N with
  | zero => intro i sh h; exact absurd h (Nat.not_lt_zero _)
  | succ N ih =>
    intro i sh hN hi hT
    rw [wX_findShifts_6]
    dsimp only
    refine pk_le m i (fun h => ?_) (fun h => ⟨vp_in_nI (by omega) (by omega), ?_⟩)
    · exact nm_r (s1_n hm1) (H sh (fun c hc => hT c (by omega)))
    · rw [nI_clamp (by omega), bn_w (by omega), nI_1]
      refine nm_e (nm_e (ih (i + 1) _ (by omega) (by omega) (fun c hc => ?_)))
      by_cases e : c = i
      · subst e; exact pk_us
      · rw [pk_un e]; exact hT c (by omega)
theorem e2_shifts (hp : l4_f p) (hm : m ≤ 12) (hm1 : 1 ≤ m) (H : ∀ su' sh' sk', (∀ i, i < m → ∃ d, sh' i = nI d ∧ bm_T p m i d) → sk_T p (m - 1) (m - 1) sk' → post ((nI n), (nI m), fd, cp, cq, (ar_f t), (ar_f p), bo, jo, be, sk', su', sh', ma, st, so, ra, nr)) : wpX_findShifts post ((nI n), (nI m), fd, cp, cq, (ar_f t), (ar_f p), bo, jo, be, sk, su, sh, ma, st, so, ra, nr) := by
  unfold wpX_findShifts
  refine e2_suf hp hm hm1 (fun su' hU => ⟨m + 1, ?_⟩)
  obtain ⟨f, hf⟩ := sk_ch (P := fun q k => su' q = nI k ∧ bm_S p m q k) (fun q hq => hU q (Nat.zero_le q) hq)
  refine e2_6s hm hm1 (fun sh1 h1 => ⟨m + 1, ?_⟩) (m + 1) 0 sh (by omega) (by omega) (fun j hj => absurd hj (Nat.not_lt_zero j))
  have e2 : nI (m - 1) = mi_p m := by
    obtain ⟨k, rfl⟩ : ∃ k, m = k + 1 := ⟨m - 1, by omega⟩
    rw [mi_s, Nat.add_sub_cancel]
  rw [e2]
  refine e2_40 hm hm1 hf (fun J sh2 h2 h3 h4 => ⟨m + 1, ?_⟩) (m + 1) m 0 sh1 (fun _ => m) (by omega) (by omega) h1 (bm_H0 (fun _ _ => rfl))
  refine e2_119 hm hm1 hf h4 (fun sh3 h5 h6 h7 => ⟨5, ?_⟩) (m + 1) 0 sh2 h2 (by omega) (by omega) h3 (bm_Q0 h4)
  refine e2_164 hm (fun sk1 h8 => ⟨m + 1, ?_⟩) 5 0 sk (by omega) (by omega) (fun c hc => absurd hc (Nat.not_lt_zero c))
  refine e2_188 hp hm hm1 (fun sk2 h9 => H su' sh3 sk2 (fun i hi => ⟨h5 i, h6 i hi, bm_Q_T h4 (fun i hi => (hf i hi).2) h7 hi⟩) h9) (m + 1) 0 sk1 (by omega) (by omega) (sk_0 (fun c hc => ?_))
  rw [h8 c hc]
  exact congrArg nI (by omega)
/-! the search -/
theorem e2_53 {J : _} {I j : Nat} (hk : ok_s n m t p) (hm1 : 1 ≤ m) (hj : j + m ≤ n) (hI : I ≤ m) (hsh : ∀ i, i < m → ∃ d, sh i = nI d ∧ bm_T p m i d) (hsk : sk_T p (m - 1) (m - 1) sk) (hB : oc_B t p n m j fd)
    (hq : ∀ q, I ≤ q → q < m → p q = t (q + j)) (hb : ∀ i, I = i + 1 → p i ≠ t (i + j))
    (hJ : ∀ j' fd', j < j' → j' ≤ n + 13 → oc_B t p n m j' fd' → J (nI j') (nI n) (nI m) fd' cp cq (ar_f t) (ar_f p) bo jo be sk su sh ma st so ra nr) : wX_searchFromEnd_53 post J (nI j) (mi_p I) (nI n) (nI m) fd cp cq (ar_f t) (ar_f p) bo jo be sk su sh ma st so ra nr := by
  obtain ⟨hn, hm, ht, hp⟩ := hk
  cases I with
  | zero =>
    refine br_f (by decide) (mk_X ?_)
    obtain ⟨d, d1, d2, d3, d4⟩ := hsh 0 hm1
    refine nm_r (e' := nI (j + d)) (by rw [d1, nI_add]) (hJ (j + d) _ (by omega) (by omega) (oc_mark hB (by omega) ⟨hj, fun k hk => ?_⟩ (by omega) (fun x x1 x2 ho => ?_)))
    · rw [hq k (by omega) hk, Nat.add_comm]
    · obtain ⟨s, rfl⟩ : ∃ s, x = j + s := ⟨x - j, by omega⟩
      exact d4 s (by omega) (by omega) (bm_C0 (by omega) (bm_safe0 (fun q hq' => hq q (by omega) hq') ho))
  | succ i =>
    rw [mi_s]
    unfold wX_searchFromEnd_53
    rw [nI_add, ar_at (by omega), l4_cl ht, nI_clamp (by omega)]
    obtain ⟨d, d1, d2, d3, d4⟩ := hsh i (by omega)
    obtain ⟨c, c1, c2, c3, c4⟩ := hsk (t (i + j)) (ht _)
    rw [d1, c1, e2_by, nI_add]
    refine br_t (nI_pos' (by omega)) ⟨vp_in_nI (by omega) (by omega), l4_in ht _, nm_e ⟨vp_in_nI (by omega) (by omega), ?_⟩⟩
    have no : ∀ x, j ≤ x → (x < j + d ∨ x + m < j + (c + 1 + i)) → ¬ oc_c t p n m x := by
      intro x x1 x2 ho
      obtain ⟨s, rfl⟩ : ∃ s, x = j + s := ⟨x - j, by omega⟩
      rcases Nat.eq_zero_or_pos s with z | z
      · subst z
        apply hb i rfl
        rw [← ho.2 i (by omega), Nat.add_zero, Nat.add_comm]
      · rcases x2 with x2 | x2
        · exact d4 s z (by omega) (bm_safe (by omega) (fun q q1 q2 => hq q q1 q2) (hb i rfl) ho)
        · have := bm_bad (d := c) hm1 (by omega) (by omega) c4 rfl z ho
          omega
    rcases Nat.lt_or_ge (c + 1 + i) m with z | z
    · have ng := pk_sneg (by omega) z
      refine br_t (Int32.le_trans (Int32.le_of_lt ng) (nI_pos' (by omega))) ⟨vp_in_nI (by omega) (by omega), nm_e (hJ (j + d) fd (by omega) (by omega) (oc_skip hB (by omega) (fun x x1 x2 => no x x1 (Or.inl x2))))⟩
    · rw [pk_sub z, nI_add]
      refine pk_le (c + 1 + i - m) d (fun g => ⟨vp_in_nI (by omega) (by omega), nm_e (hJ (j + d) fd (by omega) (by omega) (oc_skip hB (by omega) (fun x x1 x2 => no x x1 (Or.inl x2))))⟩) (fun g => nm_e (hJ (j + (c + 1 + i - m)) fd (by omega) (by omega) (oc_skip hB (by omega) (fun x x1 x2 => no x x1 (Or.inr (by omega))))))
theorem e2_26 {J : _} {j : Nat} (hk : ok_s n m t p) (hm1 : 1 ≤ m) (hj : j + m ≤ n) (hsh : ∀ i, i < m → ∃ d, sh i = nI d ∧ bm_T p m i d) (hsk : sk_T p (m - 1) (m - 1) sk) (hB : oc_B t p n m j fd)
    (hJ : ∀ j' fd', j < j' → j' ≤ n + 13 → oc_B t p n m j' fd' → J (nI j') (nI n) (nI m) fd' cp cq (ar_f t) (ar_f p) bo jo be sk su sh ma st so ra nr) :
    ∀ N I, I < N → I ≤ m → (∀ q, I ≤ q → q < m → p q = t (q + j)) → wX_searchFromEnd_26 post J (nI j) (nI n) (nI m) fd cp cq (ar_f t) (ar_f p) bo jo be sk su sh ma st so ra nr N (mi_p I) := by
  intro N
  induction N with
  | zero => intro I h; exact absurd h (Nat.not_lt_zero _)
  | succ N ih =>
    intro I hN hI hq
    cases I with
    | zero => exact br_t mi_neg (e2_53 hk hm1 hj hI hsh hsk hB hq (fun i hi => by omega) hJ)
    | succ i =>
      have fin := e2_53 (post := post) (J := J) (cp := cp) (cq := cq) (bo := bo) (jo := jo) (be := be) (su := su) (ma := ma) (st := st) (so := so) (ra := ra) (nr := nr) hk hm1 hj hI hsh hsk hB hq
      rw [mi_s] at fin ⊢
      obtain ⟨hn, hm, ht, hp⟩ := hk
      rw [wX_searchFromEnd_26]
      dsimp only
      rw [nI_add]
      refine br_f (nI_pos (by omega)) ⟨vp_in_nI (by omega) (by omega), vp_in_nI (by omega) (by omega), ?_⟩
      rw [ar_at (by omega), ar_at (by omega), l4_eq hp ht]
      refine ⟨fun h => nm_r (mi_m i) (ih i (by omega) (by omega) (fun q q1 q2 => ?_)), fun h => fin (fun k hk => ?_) hJ⟩
      · by_cases e : q = i
        · subst e; exact h
        · exact hq q (by omega) q2
      · have : k = i := by omega
        subst this
        exact h
theorem e2_6 (hk : ok_s n m t p) (hm1 : 1 ≤ m) (hsh : ∀ i, i < m → ∃ d, sh i = nI d ∧ bm_T p m i d) (hsk : sk_T p (m - 1) (m - 1) sk) (H : ∀ fd', oc_A t p n m fd' → post ((nI n), (nI m), fd', cp, cq, (ar_f t), (ar_f p), bo, jo, be, sk, su, sh, ma, st, so, ra, nr)) :
    ∀ N j fd, n + 13 - j < N → j ≤ n + 13 → oc_B t p n m j fd → wX_searchFromEnd_6 post N (nI j) (nI n) (nI m) fd cp cq (ar_f t) (ar_f p) bo jo be sk su sh ma st so ra nr := by
  intro N
  induction N with
  | zero => intro j fd h; exact absurd h (Nat.not_lt_zero _)
  | succ N ih =>
    intro j fd hN hj hB
    have hn := hk.1
    have hm := hk.2.1
    rw [wX_searchFromEnd_6]
    dsimp only
    rw [nI_add]
    refine pk_lt n (j + m) (fun h => H fd (oc_end hB h)) (fun h => nm_r (s1_n hm1) ⟨m + 1, ?_⟩)
    have e2 : nI (m - 1) = mi_p m := by
      obtain ⟨k, rfl⟩ : ∃ k, m = k + 1 := ⟨m - 1, by omega⟩
      rw [mi_s, Nat.add_sub_cancel]
    rw [e2]
    exact e2_26 hk hm1 h hsh hsk hB (fun j' fd' h1 h2 hB' => ih j' fd' (by omega) h2 hB') (m + 1) m (by omega) (by omega) (fun q h1 h2 => by omega)
theorem e2_end (hk : ok_s n m t p) (hm1 : 1 ≤ m) (hf : fd = 0) (H : eg_P post n m t p (oc_A t p n m)) : wpX_searchFromEnd post ((nI n), (nI m), fd, cp, cq, (ar_f t), (ar_f p), bo, jo, be, sk, su, sh, ma, st, so, ra, nr) := by
  subst hf
  unfold wpX_searchFromEnd
  refine e2_shifts hk.2.2.2 hk.2.1 hm1 (fun su' sh' sk' h1 h2 => ⟨n + 14, ?_⟩)
  exact e2_6 hk hm1 h1 h2 (fun fd' h => H _ _ _ _ _ _ _ _ _ _ _ _ _ _ h) (n + 14) 0 0 (by omega) (by omega) oc_B0
end
end
section
/-! engine 3: the letter behind the window; fitsAt -/
section
variable {post : SX → Prop} {n m : Nat} {t p : Nat → Nat} {fd : Int64} {cp cq : Int32} {bo jo be sk su sh ma st so ra nr : Nat → Int32}
theorem e3_fits2 {post : Int32 → Prop} {j : Nat} (ht : l4_f t) (hp : l4_f p) (hn : n ≤ 60) (hm : m ≤ 12) (hj : j + m ≤ n) (h1 : oc_c t p n m j → post 1) (h0 : ¬ oc_c t p n m j → post 0) :
    ∀ N i, m - i < N → i ≤ m → (∀ k, k < i → t (j + k) = p k) → wX_fitsAt_2 post (nI j) (nI n) (nI m) fd cp cq (ar_f t) (ar_f p) bo jo be sk su sh ma st so ra nr N (nI i) := by
  intro N
  induction N with
  | zero => intro i h; exact absurd h (Nat.not_lt_zero _)
  | succ N ih =>
    intro i hN hi hq
    rw [wX_fitsAt_2]
    dsimp only
    rw [nI_add]
    refine pk_le m i (fun h => ?_) (fun h => ⟨vp_in_nI (by omega) (by omega), vp_in_nI (by omega) (by omega), ?_⟩)
    · unfold wX_fitsAt_33
      exact br_t (congrArg nI (by omega)) (h1 ⟨hj, fun k hk => hq k (by omega)⟩)
    · rw [ar_at (by omega), ar_at (by omega), l4_eq hp ht, nI_1]
      refine ⟨fun g => nm_e (ih (i + 1) (by omega) (by omega) (fun k hk => ?_)), fun g => ?_⟩
      · by_cases e : k = i
        · subst e; rw [g, Nat.add_comm]
        · exact hq k (by omega)
      · unfold wX_fitsAt_33
        refine pk_eq i m (fun z => by omega) (fun _ => h0 (fun ho => g ?_))
        rw [← ho.2 i h, Nat.add_comm]
theorem e3_fits {post : Int32 → Prop} {j : Nat} (hk : ok_s n m t p) (hj : j + m ≤ n) (h1 : oc_c t p n m j → post 1) (h0 : ¬ oc_c t p n m j → post 0) : wpX_fitsAt post ((nI n), (nI m), fd, cp, cq, (ar_f t), (ar_f p), bo, jo, be, sk, su, sh, ma, st, so, ra, nr) (nI j) := by
  obtain ⟨hn, hm, ht, hp⟩ := hk
  exact ⟨m + 1, e3_fits2 ht hp hn hm hj h1 h0 (m + 1) 0 (by omega) (by omega) (fun k hk => absurd hk (Nat.not_lt_zero k))⟩
theorem e3_88 {J : _} {j : Nat} (hk : ok_s n m t p) (hm1 : 1 ≤ m) (hj : j + m ≤ n) (hT : sk_T p m m sk) (hB : oc_B t p n m (j + 1) fd)
    (hJ : ∀ j', j < j' → j' ≤ n + 1 → oc_B t p n m j' fd → J (nI j') (nI n) (nI m) fd cp cq (ar_f t) (ar_f p) bo jo be sk su sh ma st so ra nr) : wX_searchByLetterBehind_88 post J (nI j) (nI n) (nI m) fd cp cq (ar_f t) (ar_f p) bo jo be sk su sh ma st so ra nr := by
  obtain ⟨hn, hm, ht, hp⟩ := hk
  unfold wX_searchByLetterBehind_88
  rw [nI_add, nI_1]
  refine pk_le n (j + m) (fun h => nm_e (hJ (j + 1) (by omega) (by omega) hB)) (fun h => ⟨vp_in_nI (by omega) (by omega), ?_⟩)
  rw [ar_at (by omega), l4_cl ht]
  obtain ⟨d, d1, d2, d3, d4⟩ := hT (t (j + m)) (ht _)
  rw [d1, nI_add]
  refine ⟨l4_in ht _, nm_e (hJ (j + d) (by omega) (by omega) (oc_skip hB (by omega) (fun k k1 k2 ho => ?_)))⟩
  obtain ⟨s, rfl⟩ : ∃ s, k = j + s := ⟨k - j, by omega⟩
  have := sk_safe (c := t (j + m)) ⟨d3, d4⟩ rfl (by omega) ho
  omega
theorem e3_62 (hk : ok_s n m t p) (hm1 : 1 ≤ m) (hT : sk_T p m m sk) (H : ∀ fd', oc_A t p n m fd' → post ((nI n), (nI m), fd', cp, cq, (ar_f t), (ar_f p), bo, jo, be, sk, su, sh, ma, st, so, ra, nr)) :
    ∀ N j fd, n + 1 - j < N → j ≤ n + 1 → oc_B t p n m j fd → wX_searchByLetterBehind_62 post N (nI j) (nI n) (nI m) fd cp cq (ar_f t) (ar_f p) bo jo be sk su sh ma st so ra nr := by
  intro N
  induction N with
  | zero => intro i fd h; exact absurd h (Nat.not_lt_zero _)
  | succ N ih =>
    intro j fd hN hj hB
    have hn := hk.1
    have hm := hk.2.1
    rw [wX_searchByLetterBehind_62]
    dsimp only
    rw [nI_add]
    refine pk_lt n (j + m) (fun h => H fd (oc_end hB h)) (fun h => ?_)
    refine e3_fits hk h (fun ho => br_f (by decide) (mk_X ?_)) (fun ho => br_t rfl ?_)
    · exact e3_88 hk hm1 h hT (oc_set hB (by omega) ho) (fun j' h1 h2 hB' => ih j' _ (by omega) h2 hB')
    · refine e3_88 hk hm1 h hT (oc_skip hB (by omega) (fun i i1 i2 => ?_)) (fun j' h1 h2 hB' => ih j' _ (by omega) h2 hB')
      have : i = j := by omega
      subst this
      exact ho
theorem e3_28 (hp : l4_f p) (hm : m ≤ 12) (H : ∀ sk', sk_T p m m sk' → ∃ N, wX_searchByLetterBehind_62 post N 0 (nI n) (nI m) fd cp cq (ar_f t) (ar_f p) bo jo be sk' su sh ma st so ra nr) :
    ∀ N i sk, m - i < N → i ≤ m → sk_T p m i sk → wX_searchByLetterBehind_28 post (nI n) (nI m) fd cp cq N (nI i) (ar_f t) (ar_f p) bo jo be sk su sh ma st so ra nr := by
  intro N
  induction N with
  | zero => intro i sk h; exact absurd h (Nat.not_lt_zero _)
  | succ N ih =>
    intro i sk hN hi hT
    rw [wX_searchByLetterBehind_28]
    dsimp only
    refine pk_le m i (fun h => ?_) (fun h => ⟨vp_in_nI (by omega) (by omega), ?_⟩)
    · have : i = m := by omega
      subst this
      exact H sk hT
    · rw [ar_at (by omega), l4_cl hp, pk_sub (by omega), bn_w (by omega), nI_1]
      exact ⟨l4_in hp _, nm_e (nm_e (ih (i + 1) _ (by omega) (by omega) (sk_s hT h)))⟩
theorem e3_2 (hm : m ≤ 12) (H : ∀ sk', (∀ c, c < 4 → sk' c = nI (m + 1)) → ∃ N, wX_searchByLetterBehind_28 post (nI n) (nI m) fd cp cq N 0 (ar_f t) (ar_f p) bo jo be sk' su sh ma st so ra nr) :
    ∀ N i sk, 4 - i < N → i ≤ 4 → (∀ c, c < i → sk c = nI (m + 1)) → wX_searchByLetterBehind_2 post (nI n) (nI m) fd cp cq N (nI i) (ar_f t) (ar_f p) bo jo be sk su sh ma st so ra nr := by
  intro N
  induction N with
  | zero => intro i sk h; exact absurd h (Nat.not_lt_zero _)
  | succ N ih =>
    intro i sk hN hi hT
    rw [wX_searchByLetterBehind_2]
    dsimp only
    refine pk_le 4 i (fun h => ?_) (fun h => ⟨vp_in_nI (by omega) (by omega), ?_⟩)
    · exact H sk (fun c hc => hT c (by omega))
    · rw [nI_clamp (by omega), nI_1, bn_w (by omega), nI_1]
      refine nm_e (nm_e (ih (i + 1) _ (by omega) (by omega) (fun c hc => ?_)))
      by_cases e : c = i
      · subst e; exact pk_us
      · rw [pk_un e]; exact hT c (by omega)
theorem e3_end (hk : ok_s n m t p) (hm1 : 1 ≤ m) (hf : fd = 0) (H : eg_P post n m t p (oc_A t p n m)) : wpX_searchByLetterBehind post ((nI n), (nI m), fd, cp, cq, (ar_f t), (ar_f p), bo, jo, be, sk, su, sh, ma, st, so, ra, nr) := by
  have hkk := hk
  obtain ⟨hn, hm, ht, hp⟩ := hk
  subst hf
  refine ⟨5, e3_2 hm (fun sk' h1 => ⟨m + 1, ?_⟩) 5 0 sk (by omega) (by omega) (fun c hc => absurd hc (Nat.not_lt_zero c))⟩
  refine e3_28 hp hm (fun sk'' h2 => ⟨n + 2, ?_⟩) (m + 1) 0 sk' (by omega) (by omega) (sk_0 h1)
  exact e3_62 hkk hm1 h2 (fun fd' h => H _ _ _ _ _ _ _ _ _ _ _ _ _ _ h) (n + 2) 0 0 (by omega) (by omega) oc_B0
end
end
section
/-! engine 4: in halves -/
/-- what findCut leaves for a pattern read by the key z -/
theorem mi_ad {c k : Nat} : mi_p c + nI (k + 1) = nI (c + k) := by
  rw [← nI_1, ← nI_add]
  unfold mi_p
  grind
theorem mi_js {j c : Nat} (h : c ≤ j + 1) : nI j - mi_p c = nI (j + 1 - c) := mi_sub h
section
variable {post : SX → Prop} {n m : Nat} {t p : Nat → Nat} {fd : Int64} {cp cq : Int32} {bo jo be sk su sh ma st so ra nr : Nat → Int32}
/-- the order that is asked: z is the key of the pattern's letters -/
def cu_Z (x : Int32) (p z : Nat → Nat) : Prop := (∀ a b, p a = p b ↔ z a = z b) ∧ ((x = 0 ∧ ∀ a b, (p a < p b ↔ z a < z b)) ∨ (x = 1 ∧ ∀ a b, (p b < p a ↔ z a < z b)))
theorem e4_74 {x : Int32} {z : Nat → Nat} {J : _} {c w N D k : Nat} {lt : Int32} (hp : l4_f p) (hm : m ≤ 12) (hN : N < m) (hI : tw_I z m c w N) (hD : tw_D c w N D k) (hZ : ∀ a b, p a = p b ↔ z a = z b)
    (hlt : (lt = 0 ∧ ¬ z N < z (c + k)) ∨ (lt = 1 ∧ z N < z (c + k)))
    (hJ : ∀ c' w' N' D' k', N' ≤ m → c ≤ c' → (c = c' → N < N') → tw_I z m c' w' N' → tw_D c' w' N' D' k' → J (mi_p c') (nI (c' + D' - 1)) (nI (k' + 1)) (nI w')) :
    wX_findCut_74 post J x (mi_p c) (nI (c + D - 1)) (nI (k + 1)) (nI w) (nI (p N)) (nI (p (c + k))) lt (nI n) (nI m) fd cp cq (ar_f t) (ar_f p) bo jo be sk su sh ma st so ra nr := by
  have hw := (tw_prev hI hD).1
  obtain ⟨d1, d2, e, d3, d4⟩ := hD
  have hD : tw_D c w N D k := ⟨d1, d2, e, d3, d4⟩
  unfold wX_findCut_74
  rw [l4_eq hp hp, hZ]
  refine ⟨fun h => ?_, fun h => ?_⟩
  · have I' := tw_eq hI hD h
    refine pk_eq (k + 1) w (fun g => ?_) (fun g => ?_)
    · unfold wX_findCut_97
      rw [nI_add]
      refine nm_e (br_t (congrArg nI g) ?_)
      have := hJ c w (N + 1) (D + w) 0 (by omega) (by omega) (by omega) I' (tw_D2 hD g)
      rw [show c + (D + w) - 1 = c + D - 1 + w by omega] at this
      exact this
    · unfold wX_findCut_97
      rw [show nI (c + D - 1) + (0 : Int32) = nI (c + D - 1) from Int32.add_zero _]
      refine nm_e (pk_eq (k + 1) w (fun z => absurd z g) (fun _ => ?_))
      rw [nI_1]
      exact nm_e (hJ c w (N + 1) D (k + 1) (by omega) (by omega) (by omega) I' (tw_D1 hD g))
  · rcases hlt with ⟨rfl, h2⟩ | ⟨rfl, h2⟩
    · refine br_t rfl ?_
      have := tw_gt hI hD (by omega) hN
      rw [nI_1]
      refine nm_e ?_
      have := hJ (c + D) 1 (c + D + 1) 1 0 (by omega) (by omega) (by omega) this.1 this.2
      have e1 : mi_p (c + D) = nI (c + D - 1) := by
        obtain ⟨q, hq⟩ : ∃ q, c + D = q + 1 := ⟨c + D - 1, by omega⟩
        rw [hq, mi_s, Nat.add_sub_cancel]
      rw [e1, show c + D + 1 - 1 = c + D - 1 + 1 by omega] at this
      exact this
    · refine br_f (by decide) ?_
      have := tw_lt hI hD h2
      rw [nI_add]
      refine nm_e ?_
      rw [mi_js (by omega)]
      refine nm_e ?_
      have := hJ c (N + 1 - c) (N + 1) (N + 1 - c) 0 (by omega) (by omega) (by omega) this.1 this.2
      rw [show c + (N + 1 - c) - 1 = c + D - 1 + (k + 1) by omega, show N + 1 - c = c + D - 1 + (k + 1) + 1 - c by omega] at this
      exact this
theorem e4_10 {x : Int32} {z : Nat → Nat} (hp : l4_f p) (hm : m ≤ 12) (hZ : cu_Z x p z) (H : ∀ c w, tw_F z m c w → post ((nI n), (nI m), fd, (mi_p c), (nI w), (ar_f t), (ar_f p), bo, jo, be, sk, su, sh, ma, st, so, ra, nr)) :
    ∀ M c w N D k, (m - c) * 13 + (m - N) < M → N ≤ m → tw_I z m c w N → tw_D c w N D k → wX_findCut_10 post x (nI n) (nI m) fd cp cq (ar_f t) (ar_f p) bo jo be sk su sh ma st so ra nr M (mi_p c) (nI (c + D - 1)) (nI (k + 1)) (nI w) := by
  intro M
  induction M with
  | zero => intro c w N D k h; exact absurd h (Nat.not_lt_zero _)
  | succ M ih =>
    intro c w N D k hM hN hI hD
    have hw := (tw_prev hI hD).1
    have d1 := hD.1
    have d2 := hD.2.1
    have eN : c + D - 1 + (k + 1) = N := by omega
    rw [wX_findCut_10]
    dsimp only
    rw [nI_add, mi_ad, eN]
    refine pk_le m N (fun h => ?_) (fun h => ⟨vp_in_nI (by omega) (by omega), ?_⟩)
    · have : N = m := by omega
      subst this
      exact H c w (tw_fin hI hD)
    · rw [ar_at (by omega), ar_at (by omega)]
      have J : ∀ c' w' N' D' k', N' ≤ m → c ≤ c' → (c = c' → N < N') → tw_I z m c' w' N' → tw_D c' w' N' D' k' → wX_findCut_10 post x (nI n) (nI m) fd cp cq (ar_f t) (ar_f p) bo jo be sk su sh ma st so ra nr M (mi_p c') (nI (c' + D' - 1)) (nI (k' + 1)) (nI w') := by
        intro c' w' N' D' k' h1 h2 h3 h4 h5
        have := h5.1
        refine ih c' w' N' D' k' ?_ h1 h4 h5
        by_cases g : c = c'
        · have := h3 g
          subst g
          omega
        · omega
      have key : ∀ lt : Int32, ((lt = 0 ∧ ¬ z N < z (c + k)) ∨ (lt = 1 ∧ z N < z (c + k))) → wX_findCut_74 post (wX_findCut_10 post x (nI n) (nI m) fd cp cq (ar_f t) (ar_f p) bo jo be sk su sh ma st so ra nr M) x (mi_p c) (nI (c + D - 1)) (nI (k + 1)) (nI w) (nI (p N)) (nI (p (c + k))) lt (nI n) (nI m) fd cp cq (ar_f t) (ar_f p) bo jo be sk su sh ma st so ra nr :=
        fun lt hlt => e4_74 hp hm h hI hD hZ.1 hlt J
      have l1 := hp N
      have l2 := hp (c + k)
      refine nm_e ⟨vp_in_nI (by omega) (by omega), nm_e ?_⟩
      rcases hZ.2 with ⟨hx, ho⟩ | ⟨hx, ho⟩
      · refine br_t hx (pk_le (p (c + k)) (p N) (fun g => key 0 (Or.inl ⟨rfl, ?_⟩)) (fun g => key 1 (Or.inr ⟨rfl, ?_⟩)))
        · rw [← ho]; omega
        · rw [← ho]; exact g
      · refine br_f (by rw [hx]; decide) (pk_le (p N) (p (c + k)) (fun g => key 0 (Or.inl ⟨rfl, ?_⟩)) (fun g => key 1 (Or.inr ⟨rfl, ?_⟩)))
        · rw [← ho]; omega
        · rw [← ho]; exact g
theorem e4_cut {x : Int32} {z : Nat → Nat} (hp : l4_f p) (hm : m ≤ 12) (hm1 : 1 ≤ m) (hZ : cu_Z x p z) (H : ∀ c w, tw_F z m c w → post ((nI n), (nI m), fd, (mi_p c), (nI w), (ar_f t), (ar_f p), bo, jo, be, sk, su, sh, ma, st, so, ra, nr)) : wpX_findCut post ((nI n), (nI m), fd, cp, cq, (ar_f t), (ar_f p), bo, jo, be, sk, su, sh, ma, st, so, ra, nr) x := by
  refine ⟨(m - 0) * 13 + (m - 1) + 1, ?_⟩
  have := e4_10 (n := n) (t := t) (fd := fd) (cp := cp) (cq := cq) (bo := bo) (jo := jo) (be := be) (sk := sk) (su := su) (sh := sh) (ma := ma) (st := st) (so := so) (ra := ra) (nr := nr) hp hm hZ H ((m - 0) * 13 + (m - 1) + 1) 0 1 1 1 0 (by omega) hm1 (tw_ini (y := z) hm1).1 (tw_ini (y := z) hm1).2
  rw [mi_0] at this
  exact this
end
end
section
/-! engine 4: the searches -/
theorem mi_d (a : Nat) : nI a - 1 = mi_p a := by unfold mi_p; grind
theorem mi_tl {c i : Nat} (hc : c < 2 ^ 31) (hi : i < 2 ^ 31) : mi_p c < nI i ↔ c ≤ i := by
  rw [Int32.lt_iff_toInt_lt, mi_t hc, nI_toInt hi]; omega
section
variable {post : SX → Prop} {n m : Nat} {t p : Nat → Nat} {fd : Int64} {cp cq : Int32} {bo jo be sk su sh ma st so ra nr : Nat → Int32} {c w : Nat}
theorem e4_118 {J : _} {j : Nat} (hk : ok_s n m t p) (hj : j + m ≤ n) (X : tw_X p m c w) (hT : ∀ i, i < c → i + w < m ∧ p i = p (i + w)) (hf : ∀ k, c ≤ k → k < m → p k = t (k + j)) (hB : oc_B t p n m (j + 1) fd)
    (hJ : ∀ j' K fd', j < j' → j' ≤ n + 13 → K ≤ m → (∀ k, k < K → p k = t (k + j')) → oc_B t p n m j' fd' → J (nI j') (mi_p K) (nI n) (nI m) fd' (mi_p c) (nI w) (ar_f t) (ar_f p) bo jo be sk su sh ma st so ra nr) :
    wX_searchPeriodic_118 post J (nI j) (nI n) (nI m) fd (mi_p c) (nI w) (ar_f t) (ar_f p) bo jo be sk su sh ma st so ra nr := by
  obtain ⟨hn, hm, ht, hp⟩ := hk
  have x1 := X.1
  have x2 := X.2.1
  unfold wX_searchPeriodic_118
  rw [nI_add, pk_sub (by omega), mi_d]
  refine nm_e (nm_e (hJ (j + w) (m - w) fd (by omega) (by omega) (by omega) (tw_mem X hT hf) (oc_skip hB (by omega) (fun x h1 h2 => ?_))))
  obtain ⟨s, rfl⟩ : ∃ s, x = j + s := ⟨x - j, by omega⟩
  exact tw_sP X hf (by omega) (by omega)
theorem e4_108 {J : _} {j K I : Nat} (hk : ok_s n m t p) (hj : j + m ≤ n) (X : tw_X p m c w) (hT : ∀ i, i < c → i + w < m ∧ p i = p (i + w)) (hB : oc_B t p n m j fd) (hKm : K ≤ m)
    (hK : ∀ k, k < K → p k = t (k + j)) (hI : I ≤ c) (hf : ∀ k, I ≤ k → k < m → p k = t (k + j)) (hb : I ≤ K ∨ ∃ i, I = i + 1 ∧ p i ≠ t (i + j))
    (hJ : ∀ j' K fd', j < j' → j' ≤ n + 13 → K ≤ m → (∀ k, k < K → p k = t (k + j')) → oc_B t p n m j' fd' → J (nI j') (mi_p K) (nI n) (nI m) fd' (mi_p c) (nI w) (ar_f t) (ar_f p) bo jo be sk su sh ma st so ra nr) :
    wX_searchPeriodic_108 post J (nI j) (mi_p K) (mi_p I) (nI n) (nI m) fd (mi_p c) (nI w) (ar_f t) (ar_f p) bo jo be sk su sh ma st so ra nr := by
  have hn := hk.1
  have hm := hk.2.1
  have x2 := X.2.1
  have hf' : ∀ k, c ≤ k → k < m → p k = t (k + j) := fun k h1 h2 => hf k (by omega) h2
  unfold wX_searchPeriodic_108
  rw [mi_lt (by omega) (by omega)]
  refine ⟨fun h => ?_, fun h => mk_X ?_⟩
  · obtain ⟨i, h1, h2⟩ : ∃ i, I = i + 1 ∧ p i ≠ t (i + j) := by
      rcases hb with z | z
      · omega
      · exact z
    refine e4_118 hk hj X hT hf' (oc_skip hB (by omega) (fun x x1 x2 ho => ?_)) hJ
    have : x = j := by omega
    subst this
    apply h2
    rw [← ho.2 i (by omega), Nat.add_comm]
  · refine e4_118 hk hj X hT hf' (oc_set hB (by omega) ⟨hj, fun k hk => ?_⟩) hJ
    rcases Nat.lt_or_ge k I with z | z
    · rw [hK k (by omega), Nat.add_comm]
    · rw [hf k z hk, Nat.add_comm]
theorem e4_80 {J : _} {j K : Nat} (hk : ok_s n m t p) (hj : j + m ≤ n) (X : tw_X p m c w) (hT : ∀ i, i < c → i + w < m ∧ p i = p (i + w)) (hB : oc_B t p n m j fd) (hKm : K ≤ m) (hK : ∀ k, k < K → p k = t (k + j))
    (hJ : ∀ j' K fd', j < j' → j' ≤ n + 13 → K ≤ m → (∀ k, k < K → p k = t (k + j')) → oc_B t p n m j' fd' → J (nI j') (mi_p K) (nI n) (nI m) fd' (mi_p c) (nI w) (ar_f t) (ar_f p) bo jo be sk su sh ma st so ra nr) :
    ∀ N I, I < N → I ≤ c → (∀ k, I ≤ k → k < m → p k = t (k + j)) → wX_searchPeriodic_80 post J (nI j) (mi_p K) (nI n) (nI m) fd (mi_p c) (nI w) (ar_f t) (ar_f p) bo jo be sk su sh ma st so ra nr N (mi_p I) := by
  intro N
  induction N with
  | zero => intro I h; exact absurd h (Nat.not_lt_zero _)
  | succ N ih =>
    intro I hN hI hf
    have fin := e4_108 (post := post) (J := J) (I := I) (bo := bo) (jo := jo) (be := be) (sk := sk) (su := su) (sh := sh) (ma := ma) (st := st) (so := so) (ra := ra) (nr := nr) hk hj X hT hB hKm hK hI hf
    obtain ⟨hn, hm, ht, hp⟩ := hk
    have x2 := X.2.1
    rw [wX_searchPeriodic_80]
    dsimp only
    rw [mi_ll (by omega) (by omega)]
    refine ⟨fun h => fin (Or.inl h) hJ, fun h => ?_⟩
    cases I with
    | zero => omega
    | succ i =>
      rw [mi_s] at fin ⊢
      rw [nI_add, ar_at (by omega), ar_at (by omega), l4_eq hp ht]
      refine ⟨vp_in_nI (by omega) (by omega), vp_in_nI (by omega) (by omega), fun g => nm_r (mi_m i) (ih i (by omega) (by omega) (fun k h1 h2 => ?_)), fun g => fin (Or.inr ⟨i, rfl, g⟩) hJ⟩
      by_cases e : k = i
      · subst e; exact g
      · exact hf k (by omega) h2
theorem e4_67 {J : _} {j K i : Nat} (hk : ok_s n m t p) (hj : j + m ≤ n) (X : tw_X p m c w) (hT : ∀ i, i < c → i + w < m ∧ p i = p (i + w)) (hB : oc_B t p n m j fd) (hKm : K ≤ m) (hK : ∀ k, k < K → p k = t (k + j))
    (hi : c ≤ i) (him : i ≤ m) (hf : ∀ k, c ≤ k → k < i → p k = t (k + j)) (hb : i < m → p i ≠ t (i + j))
    (hJ : ∀ j' K fd', j < j' → j' ≤ n + 13 → K ≤ m → (∀ k, k < K → p k = t (k + j')) → oc_B t p n m j' fd' → J (nI j') (mi_p K) (nI n) (nI m) fd' (mi_p c) (nI w) (ar_f t) (ar_f p) bo jo be sk su sh ma st so ra nr) :
    wX_searchPeriodic_67 post J (nI j) (mi_p K) (nI i) (nI n) (nI m) fd (mi_p c) (nI w) (ar_f t) (ar_f p) bo jo be sk su sh ma st so ra nr := by
  have hn := hk.1
  have hm := hk.2.1
  unfold wX_searchPeriodic_67
  rw [mi_js (by omega), nI_add]
  refine pk_lt i m (fun h => ?_) (fun h => ⟨c + 1, e4_80 hk hj X hT hB hKm hK hJ (c + 1) c (by omega) (by omega) (fun k h1 h2 => hf k h1 (by omega))⟩)
  have := hJ (j + (i + 1 - c)) 0 fd (by omega) (by omega) (by omega) (fun k hk => absurd hk (Nat.not_lt_zero k)) (oc_skip hB (by omega) (fun x x1 x2 ho => ?_))
  · rw [mi_0] at this
    exact nm_e this
  · obtain ⟨s, rfl⟩ : ∃ s, x = j + s := ⟨x - j, by omega⟩
    rcases Nat.eq_zero_or_pos s with z | z
    · subst z
      apply hb h
      rw [← ho.2 i (by omega), Nat.add_zero, Nat.add_comm]
    · exact tw_sR X h hf (hb h) z (by omega) ho
theorem e4_36 {J : _} {j K : Nat} (hk : ok_s n m t p) (hj : j + m ≤ n) (X : tw_X p m c w) (hT : ∀ i, i < c → i + w < m ∧ p i = p (i + w)) (hB : oc_B t p n m j fd) (hKm : K ≤ m) (hK : ∀ k, k < K → p k = t (k + j))
    (hJ : ∀ j' K fd', j < j' → j' ≤ n + 13 → K ≤ m → (∀ k, k < K → p k = t (k + j')) → oc_B t p n m j' fd' → J (nI j') (mi_p K) (nI n) (nI m) fd' (mi_p c) (nI w) (ar_f t) (ar_f p) bo jo be sk su sh ma st so ra nr) :
    ∀ N i, m - i < N → c ≤ i → i ≤ m → (∀ k, c ≤ k → k < i → p k = t (k + j)) → wX_searchPeriodic_36 post J (nI j) (mi_p K) (nI n) (nI m) fd (mi_p c) (nI w) (ar_f t) (ar_f p) bo jo be sk su sh ma st so ra nr N (nI i) := by
  intro N
  induction N with
  | zero => intro I h; exact absurd h (Nat.not_lt_zero _)
  | succ N ih =>
    intro i hN hi him hf
    have fin := e4_67 (post := post) (J := J) (bo := bo) (jo := jo) (be := be) (sk := sk) (su := su) (sh := sh) (ma := ma) (st := st) (so := so) (ra := ra) (nr := nr) hk hj X hT hB hKm hK hi him hf
    obtain ⟨hn, hm, ht, hp⟩ := hk
    rw [wX_searchPeriodic_36]
    dsimp only
    rw [nI_add, nI_1]
    refine pk_le m i (fun h => fin (fun z => by omega) hJ) (fun h => ⟨vp_in_nI (by omega) (by omega), vp_in_nI (by omega) (by omega), ?_⟩)
    rw [ar_at (by omega), ar_at (by omega), l4_eq hp ht]
    refine ⟨fun g => nm_e (ih (i + 1) (by omega) (by omega) (by omega) (fun k h1 h2 => ?_)), fun g => fin (fun _ => g) hJ⟩
    by_cases e : k = i
    · subst e; exact g
    · exact hf k h1 (by omega)
theorem e4_4 (hk : ok_s n m t p) (X : tw_X p m c w) (hT : ∀ i, i < c → i + w < m ∧ p i = p (i + w)) (H : ∀ fd', oc_A t p n m fd' → post ((nI n), (nI m), fd', (mi_p c), (nI w), (ar_f t), (ar_f p), bo, jo, be, sk, su, sh, ma, st, so, ra, nr)) :
    ∀ N j K fd, n + 13 - j < N → j ≤ n + 13 → K ≤ m → (∀ k, k < K → p k = t (k + j)) → oc_B t p n m j fd → wX_searchPeriodic_4 post N (nI j) (mi_p K) (nI n) (nI m) fd (mi_p c) (nI w) (ar_f t) (ar_f p) bo jo be sk su sh ma st so ra nr := by
  intro N
  induction N with
  | zero => intro j K fd h; exact absurd h (Nat.not_lt_zero _)
  | succ N ih =>
    intro j K fd hN hj hKm hK hB
    have hn := hk.1
    have hm := hk.2.1
    have x2 := X.2.1
    rw [wX_searchPeriodic_4]
    dsimp only
    rw [nI_add, mi_ll (by omega) (by omega), mi_a, mi_a]
    refine pk_lt n (j + m) (fun h => H fd (oc_end hB h)) (fun h => ⟨fun g => nm_e ⟨m + 1, ?_⟩, fun g => nm_e ⟨m + 1, ?_⟩⟩)
    · exact e4_36 hk h X hT hB hKm hK (fun j' K' fd' h1 h2 h3 h4 h5 => ih j' K' fd' (by omega) h2 h3 h4 h5) (m + 1) K (by omega) g hKm (fun k h1 h2 => hK k h2)
    · exact e4_36 hk h X hT hB hKm hK (fun j' K' fd' h1 h2 h3 h4 h5 => ih j' K' fd' (by omega) h2 h3 h4 h5) (m + 1) c (by omega) (by omega) (by omega) (fun k h1 h2 => by omega)
theorem e4_per (hk : ok_s n m t p) (X : tw_X p m c w) (hT : ∀ i, i < c → i + w < m ∧ p i = p (i + w)) (hf : fd = 0) (H : eg_P post n m t p (oc_A t p n m)) : wpX_searchPeriodic post ((nI n), (nI m), fd, (mi_p c), (nI w), (ar_f t), (ar_f p), bo, jo, be, sk, su, sh, ma, st, so, ra, nr) := by
  subst hf
  refine ⟨n + 14, ?_⟩
  have := e4_4 (post := post) (bo := bo) (jo := jo) (be := be) (sk := sk) (su := su) (sh := sh) (ma := ma) (st := st) (so := so) (ra := ra) (nr := nr) hk X hT (fun fd' h => H _ _ _ _ _ _ _ _ _ _ _ _ _ _ h) (n + 14) 0 0 0 (by omega) (by omega) (by omega) (fun k hk => absurd hk (Nat.not_lt_zero k)) oc_B0
  rw [mi_0] at this
  exact this
/-! not periodic -/
theorem e4_150 {J : _} {j I : Nat} (hk : ok_s n m t p) (hj : j + m ≤ n) (X : tw_X p m c w) (hT : ∃ i, i < c ∧ ¬ (i + w < m ∧ p i = p (i + w))) {f : Nat} (hF : 1 ≤ f) (hF1 : f ≤ 13) (hF2 : f ≤ c + 1 ∨ f ≤ m - c + 1) (hB : oc_B t p n m j fd)
    (hI : I ≤ c) (hf : ∀ k, I ≤ k → k < m → p k = t (k + j)) (hb : ∀ i, I = i + 1 → p i ≠ t (i + j))
    (hJ : ∀ j' fd', j < j' → j' ≤ n + 13 → oc_B t p n m j' fd' → J (nI j') (nI n) (nI m) fd' (mi_p c) (nI w) (ar_f t) (ar_f p) bo jo be sk su sh ma st so ra nr) :
    wX_searchPlain_150 post J (nI f) (nI j) (mi_p I) (nI n) (nI m) fd (mi_p c) (nI w) (ar_f t) (ar_f p) bo jo be sk su sh ma st so ra nr := by
  have hn := hk.1
  have hm := hk.2.1
  have x2 := X.2.1
  have no : ∀ x, j + 1 ≤ x → x < j + f → ¬ oc_c t p n m x := by
    intro x h1 h2
    obtain ⟨s, rfl⟩ : ∃ s, x = j + s := ⟨x - j, by omega⟩
    exact tw_sF X hT (fun k h1 h2 => hf k (by omega) h2) (by omega) (by omega)
  unfold wX_searchPlain_150
  cases I with
  | zero =>
    refine br_f (by decide) (mk_X ?_)
    rw [nI_add]
    refine nm_e (hJ (j + f) _ (by omega) (by omega) (oc_mark hB (by omega) ⟨hj, fun k hk => ?_⟩ (by omega) (fun x h1 h2 => no x (by omega) h2)))
    rw [hf k (by omega) hk, Nat.add_comm]
  | succ i =>
    rw [mi_s, nI_add]
    refine br_t (nI_pos' (by omega)) (nm_e (hJ (j + f) fd (by omega) (by omega) (oc_skip hB (by omega) (fun x h1 h2 ho => ?_))))
    by_cases e : x = j
    · subst e
      apply hb i rfl
      rw [← ho.2 i (by omega), Nat.add_comm]
    · exact no x (by omega) h2 ho
theorem e4_120 {J : _} {j : Nat} (hk : ok_s n m t p) (hj : j + m ≤ n) (X : tw_X p m c w) (hT : ∃ i, i < c ∧ ¬ (i + w < m ∧ p i = p (i + w))) {f : Nat} (hF : 1 ≤ f) (hF1 : f ≤ 13) (hF2 : f ≤ c + 1 ∨ f ≤ m - c + 1) (hB : oc_B t p n m j fd)
    (hJ : ∀ j' fd', j < j' → j' ≤ n + 13 → oc_B t p n m j' fd' → J (nI j') (nI n) (nI m) fd' (mi_p c) (nI w) (ar_f t) (ar_f p) bo jo be sk su sh ma st so ra nr) :
    ∀ N I, I < N → I ≤ c → (∀ k, I ≤ k → k < m → p k = t (k + j)) → wX_searchPlain_120 post J (nI f) (nI j) (nI n) (nI m) fd (mi_p c) (nI w) (ar_f t) (ar_f p) bo jo be sk su sh ma st so ra nr N (mi_p I) := by
  intro N
  induction N with
  | zero => intro I h; exact absurd h (Nat.not_lt_zero _)
  | succ N ih =>
    intro I hN hI hf
    have fin := e4_150 (post := post) (J := J) (I := I) (bo := bo) (jo := jo) (be := be) (sk := sk) (su := su) (sh := sh) (ma := ma) (st := st) (so := so) (ra := ra) (nr := nr) hk hj X hT hF hF1 hF2 hB hI hf
    obtain ⟨hn, hm, ht, hp⟩ := hk
    have x2 := X.2.1
    rw [wX_searchPlain_120]
    dsimp only
    cases I with
    | zero => exact br_t mi_neg (fin (fun i hi => by omega) hJ)
    | succ i =>
      rw [mi_s] at fin ⊢
      rw [nI_add, ar_at (by omega), ar_at (by omega), l4_eq hp ht]
      refine br_f (nI_pos (by omega)) ⟨vp_in_nI (by omega) (by omega), vp_in_nI (by omega) (by omega), fun g => nm_r (mi_m i) (ih i (by omega) (by omega) (fun k h1 h2 => ?_)), fun g => fin (fun i' hi' => ?_) hJ⟩
      · by_cases e : k = i
        · subst e; exact g
        · exact hf k (by omega) h2
      · have : i' = i := by omega
        subst this
        exact g
theorem e4_92 {J : _} {j i : Nat} (hk : ok_s n m t p) (hj : j + m ≤ n) (X : tw_X p m c w) (hT : ∃ i, i < c ∧ ¬ (i + w < m ∧ p i = p (i + w))) {f : Nat} (hF : 1 ≤ f) (hF1 : f ≤ 13) (hF2 : f ≤ c + 1 ∨ f ≤ m - c + 1) (hB : oc_B t p n m j fd)
    (hi : c ≤ i) (him : i ≤ m) (hf : ∀ k, c ≤ k → k < i → p k = t (k + j)) (hb : i < m → p i ≠ t (i + j))
    (hJ : ∀ j' fd', j < j' → j' ≤ n + 13 → oc_B t p n m j' fd' → J (nI j') (nI n) (nI m) fd' (mi_p c) (nI w) (ar_f t) (ar_f p) bo jo be sk su sh ma st so ra nr) :
    wX_searchPlain_92 post J (nI f) (nI j) (nI i) (nI n) (nI m) fd (mi_p c) (nI w) (ar_f t) (ar_f p) bo jo be sk su sh ma st so ra nr := by
  have hn := hk.1
  have hm := hk.2.1
  unfold wX_searchPlain_92
  rw [mi_js (by omega), nI_add]
  refine pk_le m i (fun h => ⟨c + 1, e4_120 hk hj X hT hF hF1 hF2 hB hJ (c + 1) c (by omega) (by omega) (fun k h1 h2 => hf k h1 (by omega))⟩) (fun h => ?_)
  refine nm_e (hJ (j + (i + 1 - c)) fd (by omega) (by omega) (oc_skip hB (by omega) (fun x x1 x2 ho => ?_)))
  obtain ⟨s, rfl⟩ : ∃ s, x = j + s := ⟨x - j, by omega⟩
  rcases Nat.eq_zero_or_pos s with z | z
  · subst z
    apply hb h
    rw [← ho.2 i (by omega), Nat.add_zero, Nat.add_comm]
  · exact tw_sR X h hf (hb h) z (by omega) ho
theorem e4_58 {J : _} {j : Nat} (hk : ok_s n m t p) (hj : j + m ≤ n) (X : tw_X p m c w) (hT : ∃ i, i < c ∧ ¬ (i + w < m ∧ p i = p (i + w))) {f : Nat} (hF : 1 ≤ f) (hF1 : f ≤ 13) (hF2 : f ≤ c + 1 ∨ f ≤ m - c + 1) (hB : oc_B t p n m j fd)
    (hJ : ∀ j' fd', j < j' → j' ≤ n + 13 → oc_B t p n m j' fd' → J (nI j') (nI n) (nI m) fd' (mi_p c) (nI w) (ar_f t) (ar_f p) bo jo be sk su sh ma st so ra nr) :
    ∀ N i, m - i < N → c ≤ i → i ≤ m → (∀ k, c ≤ k → k < i → p k = t (k + j)) → wX_searchPlain_58 post J (nI f) (nI j) (nI n) (nI m) fd (mi_p c) (nI w) (ar_f t) (ar_f p) bo jo be sk su sh ma st so ra nr N (nI i) := by
  intro N
  induction N with
  | zero => intro I h; exact absurd h (Nat.not_lt_zero _)
  | succ N ih =>
    intro i hN hi him hf
    have fin := e4_92 (post := post) (J := J) (bo := bo) (jo := jo) (be := be) (sk := sk) (su := su) (sh := sh) (ma := ma) (st := st) (so := so) (ra := ra) (nr := nr) hk hj X hT hF hF1 hF2 hB hi him hf
    obtain ⟨hn, hm, ht, hp⟩ := hk
    rw [wX_searchPlain_58]
    dsimp only
    rw [nI_add, nI_1]
    refine pk_le m i (fun h => fin (fun z => by omega) hJ) (fun h => ⟨vp_in_nI (by omega) (by omega), vp_in_nI (by omega) (by omega), ?_⟩)
    rw [ar_at (by omega), ar_at (by omega), l4_eq hp ht]
    refine ⟨fun g => nm_e (ih (i + 1) (by omega) (by omega) (by omega) (fun k h1 h2 => ?_)), fun g => fin (fun _ => g) hJ⟩
    by_cases e : k = i
    · subst e; exact g
    · exact hf k h1 (by omega)
theorem e4_37 (hk : ok_s n m t p) (X : tw_X p m c w) (hT : ∃ i, i < c ∧ ¬ (i + w < m ∧ p i = p (i + w))) {f : Nat} (hF : 1 ≤ f) (hF1 : f ≤ 13) (hF2 : f ≤ c + 1 ∨ f ≤ m - c + 1) (H : ∀ fd', oc_A t p n m fd' → post ((nI n), (nI m), fd', (mi_p c), (nI w), (ar_f t), (ar_f p), bo, jo, be, sk, su, sh, ma, st, so, ra, nr)) :
    ∀ N j fd, n + 13 - j < N → j ≤ n + 13 → oc_B t p n m j fd → wX_searchPlain_37 post (nI f) N (nI j) (nI n) (nI m) fd (mi_p c) (nI w) (ar_f t) (ar_f p) bo jo be sk su sh ma st so ra nr := by
  intro N
  induction N with
  | zero => intro j fd h; exact absurd h (Nat.not_lt_zero _)
  | succ N ih =>
    intro j fd hN hj hB
    have hn := hk.1
    have hm := hk.2.1
    have x2 := X.2.1
    rw [wX_searchPlain_37]
    dsimp only
    rw [nI_add, mi_a]
    refine pk_lt n (j + m) (fun h => H fd (oc_end hB h)) (fun h => nm_e ⟨m + 1, ?_⟩)
    exact e4_58 hk h X hT hF hF1 hF2 hB (fun j' fd' h1 h2 h3 => ih j' fd' (by omega) h2 h3) (m + 1) c (by omega) (by omega) (by omega) (fun k h1 h2 => by omega)
theorem e4_plain (hk : ok_s n m t p) (X : tw_X p m c w) (hT : ∃ i, i < c ∧ ¬ (i + w < m ∧ p i = p (i + w))) (hf : fd = 0) (H : eg_P post n m t p (oc_A t p n m)) : wpX_searchPlain post ((nI n), (nI m), fd, (mi_p c), (nI w), (ar_f t), (ar_f p), bo, jo, be, sk, su, sh, ma, st, so, ra, nr) := by
  subst hf
  have hn := hk.1
  have hm := hk.2.1
  have x1 := X.1
  have x2 := X.2.1
  unfold wpX_searchPlain
  dsimp only
  rw [mi_js (by omega), s1_n (by omega), show m + 1 - c - 1 = m - c by omega, mi_a, nI_1]
  refine nm_e (pk_le c (m - c) (fun h => ?_) (fun h => nm_e ⟨n + 14, ?_⟩))
  · rw [nI_1]
    exact nm_e ⟨n + 14, e4_37 hk X hT (by omega) (by omega) (Or.inr (Nat.le_refl _)) (fun fd' h => H _ _ _ _ _ _ _ _ _ _ _ _ _ _ h) (n + 14) 0 0 (by omega) (by omega) oc_B0⟩
  · exact e4_37 hk X hT (by omega) (by omega) (Or.inl (Nat.le_refl _)) (fun fd' h => H _ _ _ _ _ _ _ _ _ _ _ _ _ _ h) (n + 14) 0 0 (by omega) (by omega) oc_B0
theorem e4_43 (hk : ok_s n m t p) (X : tw_X p m c w) (hf : fd = 0) (H : eg_P post n m t p (oc_A t p n m)) :
    ∀ N i (b : Int32), c + 1 - i < N → i ≤ c → ((b = 1 ∧ ∀ k, k < i → k + w < m ∧ p k = p (k + w)) ∨ (b = 0 ∧ ∃ i, i < c ∧ ¬ (i + w < m ∧ p i = p (i + w)))) → wX_searchInHalves_43 post (nI n) (nI m) fd (mi_p c) (nI w) (ar_f t) (ar_f p) bo jo be sk su sh ma st so ra nr N b (nI i) := by
  have x1 := X.1
  have x2 := X.2.1
  intro N
  induction N with
  | zero => intro i b h; exact absurd h (Nat.not_lt_zero _)
  | succ N ih =>
    intro i b hN hi hb
    have hn := hk.1
    have hm := hk.2.1
    have hp := hk.2.2.2
    rw [wX_searchInHalves_43]
    dsimp only
    rcases hb with ⟨rfl, hT⟩ | ⟨rfl, hT⟩
    · rw [mi_tl (by omega) (by omega), nI_add, nI_1]
      refine ⟨fun h => br_f (by decide) ?_, fun h => br_f (by decide) (pk_le m (i + w) (fun g => nm_e ?_) (fun g => ⟨vp_in_nI (by omega) (by omega), vp_in_nI (by omega) (by omega), ?_⟩))⟩
      · exact e4_per hk X (fun k hk => hT k (by omega)) hf (fun fd' a b c d e f g h i j k l o hA => H _ _ _ _ _ _ _ _ _ _ _ _ _ _ hA)
      · exact ih (i + 1) 0 (by omega) (by omega) (Or.inr ⟨rfl, i, by omega, fun z => by omega⟩)
      · rw [ar_at (by omega), ar_at (by omega), l4_eq hp hp]
        refine ⟨fun z => nm_e (ih (i + 1) 1 (by omega) (by omega) (Or.inl ⟨rfl, fun k hk' => ?_⟩)), fun z => nm_e (ih (i + 1) 0 (by omega) (by omega) (Or.inr ⟨rfl, i, by omega, fun y => z y.2⟩))⟩
        by_cases e : k = i
        · subst e; exact ⟨g, z⟩
        · exact hT k (by omega)
    · have fin : wX_searchInHalves_104 post 0 (nI n) (nI m) fd (mi_p c) (nI w) (ar_f t) (ar_f p) bo jo be sk su sh ma st so ra nr := br_t rfl (e4_plain hk X hT hf (fun fd' a b c d e f g h i j k l o hA => H _ _ _ _ _ _ _ _ _ _ _ _ _ _ hA))
      exact br_c (fun _ => fin) (fun _ => br_t rfl fin)
end
section
variable {post : SX → Prop} {n m : Nat} {t p : Nat → Nat} {fd : Int64} {cp cq : Int32} {bo jo be sk su sh ma st so ra nr : Nat → Int32}
theorem e4_end (hk : ok_s n m t p) (hm1 : 1 ≤ m) (hf : fd = 0) (H : eg_P post n m t p (oc_A t p n m)) : wpX_searchInHalves post ((nI n), (nI m), fd, cp, cq, (ar_f t), (ar_f p), bo, jo, be, sk, su, sh, ma, st, so, ra, nr) := by
  have hp := hk.2.2.2
  have hn := hk.1
  have hm := hk.2.1
  have Z1 : cu_Z 0 p p := ⟨fun a b => Iff.rfl, Or.inl ⟨rfl, fun a b => Iff.rfl⟩⟩
  have Z2 : cu_Z 1 p (fun i => 3 - p i) := by
    refine ⟨fun a b => ?_, Or.inr ⟨rfl, fun a b => ?_⟩⟩
    · have h1 := hp a
      have h2 := hp b
      show p a = p b ↔ 3 - p a = 3 - p b
      omega
    · have h1 := hp a
      have h2 := hp b
      show p b < p a ↔ 3 - p a < 3 - p b
      omega
  unfold wpX_searchInHalves
  refine e4_cut hp hm hm1 Z1 (fun c1 w1 F1 => ?_)
  refine e4_cut hp hm hm1 Z2 (fun c2 w2 F2 => ?_)
  have f1 := F1.2.1
  have f2 := F2.2.1
  dsimp only
  rw [mi_ll (by omega) (by omega)]
  refine ⟨fun h => ⟨c2 + 2, ?_⟩, fun h => ⟨c1 + 2, ?_⟩⟩
  · have X : tw_X p m c2 w2 := by
      have X' := tw_mk F2 F1 h (fun a b hab => by
        show 3 - p b ≤ 3 - p a
        omega) (fun a b hab => (Z2.1 a b).mpr hab)
      exact tw_Xe X' (fun a b hab => (Z2.1 a b).mp hab) (fun a b hab => (Z2.1 a b).mpr hab)
    exact e4_43 hk X hf H (c2 + 2) 0 1 (by omega) (by omega) (Or.inl ⟨rfl, fun k hk => absurd hk (Nat.not_lt_zero k)⟩)
  · have X : tw_X p m c1 w1 := tw_mk F1 F2 (by omega) (fun a b hab => by
      have h1 := hp a
      have h2 := hp b
      have hab : 3 - p a ≤ 3 - p b := hab
      omega) (fun a b hab => (Z2.1 a b).mp hab)
    exact e4_43 hk X hf H (c1 + 2) 0 1 (by omega) (by omega) (Or.inl ⟨rfl, fun k hk => absurd hk (Nat.not_lt_zero k)⟩)
end
end
section
/-! engine 5: sums -/
theorem m5_n (a : Nat) : nI a * 5 = nI (a * 5) := pk_mul a 5
theorem rm_97 {a : Nat} (h : a < 2 ^ 31) : nI a - nI a / 97 * 97 = nI (a % 97) := pk_rem h (by decide) (by decide)
theorem ad_388 (a : Nat) : nI a + 388 = nI (a + 388) := nI_add a 388
section
variable {post : SX → Prop} {n m : Nat} {t p : Nat → Nat} {fd : Int64} {cp cq : Int32} {bo jo be sk su sh ma st so ra nr : Nat → Int32}
theorem e5_107 {J : _} {h j w : Nat} (hk : ok_s n m t p) (hm1 : 1 ≤ m) (hj : j + m ≤ n) (hh : h = rk_P t j m % 97) (hw : w = 5 ^ (m - 1) % 97) (hB : oc_B t p n m (j + 1) fd) {x2 : Int32}
    (hJ : ∀ h', h' < 97 → (j + 1 + m ≤ n → h' = rk_P t (j + 1) m % 97) → J (nI h') (nI (j + 1)) (nI n) (nI m) fd cp cq (ar_f t) (ar_f p) bo jo be sk su sh ma st so ra nr) : wX_searchBySums_107 post J (nI w) x2 (nI h) (nI j) (nI n) (nI m) fd cp cq (ar_f t) (ar_f p) bo jo be sk su sh ma st so ra nr := by
  obtain ⟨hn, hm, ht, hp⟩ := hk
  have l1 := ht j
  have l2 := ht (j + m)
  have hw2 : w < 97 := by rw [hw]; exact Nat.mod_lt _ (by decide)
  have hh2 : h < 97 := by rw [hh]; exact Nat.mod_lt _ (by decide)
  have hmul : w * t j ≤ 97 * 4 := Nat.mul_le_mul (by omega) (by omega)
  unfold wX_searchBySums_107
  rw [nI_add, nI_1]
  refine pk_le n (j + m) (fun z => nm_e (hJ h hh2 (fun y => by omega))) (fun z => ⟨vp_in_nI (by omega) (by omega), by decide, ?_⟩)
  rw [ar_at (by omega), ar_at (by omega), pk_mul, rm_97 (by omega), ad_388, pk_sub (by omega)]
  refine nm_e ⟨by decide, vp_in_nI (by omega) (by omega), by decide, ?_⟩
  rw [rm_97 (by omega), m5_n, nI_add, rm_97 (by omega)]
  refine nm_e (nm_e (hJ _ (Nat.mod_lt _ (by decide)) (fun _ => ?_)))
  rw [hh, hw]
  exact rk_roll hm1
theorem e5_73 {w q : Nat} (hk : ok_s n m t p) (hm1 : 1 ≤ m) (hw : w = 5 ^ (m - 1) % 97) (hq : q = rk_P p 0 m % 97) (H : ∀ fd', oc_A t p n m fd' → post ((nI n), (nI m), fd', cp, cq, (ar_f t), (ar_f p), bo, jo, be, sk, su, sh, ma, st, so, ra, nr)) :
    ∀ N j h fd, n + 1 - j < N → j ≤ n → h < 97 → (j + m ≤ n → h = rk_P t j m % 97) → oc_B t p n m j fd → wX_searchBySums_73 post (nI w) (nI q) N (nI h) (nI j) (nI n) (nI m) fd cp cq (ar_f t) (ar_f p) bo jo be sk su sh ma st so ra nr := by
  have hq2 : q < 97 := by rw [hq]; exact Nat.mod_lt _ (by decide)
  intro N
  induction N with
  | zero => intro j h fd z; exact absurd z (Nat.not_lt_zero _)
  | succ N ih =>
    intro j h fd hN hj hh2 hh hB
    have hn := hk.1
    have hm := hk.2.1
    rw [wX_searchBySums_73]
    dsimp only
    rw [nI_add]
    refine pk_lt n (j + m) (fun z => H fd (oc_end hB z)) (fun z => ?_)
    have no : ¬ oc_c t p n m j → wX_searchBySums_107 post (wX_searchBySums_73 post (nI w) (nI q) N) (nI w) (nI q) (nI h) (nI j) (nI n) (nI m) fd cp cq (ar_f t) (ar_f p) bo jo be sk su sh ma st so ra nr := by
      intro ho
      refine e5_107 hk hm1 z (hh z) hw (oc_skip hB (by omega) (fun i i1 i2 => ?_)) (fun h' h1 h2 => ih (j + 1) h' fd (by omega) (by omega) h1 h2 (oc_skip hB (by omega) (fun i i1 i2 => ?_)))
      · have : i = j := by omega
        subst this
        exact ho
      · have : i = j := by omega
        subst this
        exact ho
    refine pk_eq h q (fun g => e3_fits hk z (fun ho => br_f (by decide) (mk_X ?_)) (fun ho => br_t rfl (no ho))) (fun g => no (fun ho => g ?_))
    · exact e5_107 hk hm1 z (hh z) hw (oc_set hB (by omega) ho) (fun h' h1 h2 => ih (j + 1) h' _ (by omega) (by omega) h1 h2 (oc_set hB (by omega) ho))
    · rw [hh z, hq, rk_e ho.2]
theorem e5_33 {J : _} {a b i w : Nat} (hk : ok_s n m t p) (hi : i < m) (hmn : m ≤ n) (ha : a = rk_P p 0 i % 97) (hb : b = rk_P t 0 i % 97)
    (hJ : J (nI w) (nI (rk_P p 0 (i + 1) % 97)) (nI (rk_P t 0 (i + 1) % 97)) (nI (i + 1))) : wX_searchBySums_33 post J (nI a) (nI b) (nI i) (nI w) (nI n) (nI m) fd cp cq (ar_f t) (ar_f p) bo jo be sk su sh ma st so ra nr := by
  obtain ⟨hn, hm, ht, hp⟩ := hk
  have l1 := ht i
  have l2 := hp i
  have ha2 : a < 97 := by rw [ha]; exact Nat.mod_lt _ (by decide)
  have hb2 : b < 97 := by rw [hb]; exact Nat.mod_lt _ (by decide)
  unfold wX_searchBySums_33
  rw [ar_at (by omega), ar_at (by omega), m5_n, m5_n, nI_add, nI_add, rm_97 (by omega), rm_97 (by omega), nI_1]
  have e1 := rk_s p 0 i
  have e2 := rk_s t 0 i
  rw [← ha, Nat.zero_add] at e1
  rw [← hb, Nat.zero_add] at e2
  rw [e1, e2]
  exact ⟨vp_in_nI (by omega) (by omega), by decide, nm_e ⟨vp_in_nI (by omega) (by omega), by decide, nm_e (nm_e hJ)⟩⟩
theorem e5_9 (hk : ok_s n m t p) (hmn : m ≤ n) (H : ∃ N, wX_searchBySums_73 post (nI (5 ^ (m - 1) % 97)) (nI (rk_P p 0 m % 97)) N (nI (rk_P t 0 m % 97)) 0 (nI n) (nI m) fd cp cq (ar_f t) (ar_f p) bo jo be sk su sh ma st so ra nr) :
    ∀ N i, m - i < N → i ≤ m → wX_searchBySums_9 post (nI n) (nI m) fd cp cq (ar_f t) (ar_f p) bo jo be sk su sh ma st so ra nr N (nI (5 ^ (i - 1) % 97)) (nI (rk_P p 0 i % 97)) (nI (rk_P t 0 i % 97)) (nI i) := by
  intro N
  induction N with
  | zero => intro i h; exact absurd h (Nat.not_lt_zero _)
  | succ N ih =>
    intro i hN hi
    have hn := hk.1
    have hm := hk.2.1
    rw [wX_searchBySums_9]
    dsimp only
    refine pk_le m i (fun h => ?_) (fun h => ?_)
    · have : i = m := by omega
      subst this
      exact H
    · have step := ih (i + 1) (by omega) (by omega)
      rw [c0_el (by omega)]
      refine ⟨fun g => ?_, fun g => ⟨by decide, ?_⟩⟩
      · subst g
        exact e5_33 hk h hmn rfl rfl step
      · obtain ⟨k, rfl⟩ : ∃ k, i = k + 1 := ⟨i - 1, by omega⟩
        have hlt : 5 ^ (k + 1 - 1) % 97 < 97 := Nat.mod_lt _ (by decide)
        rw [m5_n, rm_97 (by omega), rk_wt]
        exact e5_33 hk h hmn rfl rfl step
theorem e5_end (hk : ok_s n m t p) (hm1 : 1 ≤ m) (hmn : m ≤ n) (hf : fd = 0) (H : eg_P post n m t p (oc_A t p n m)) : wpX_searchBySums post ((nI n), (nI m), fd, cp, cq, (ar_f t), (ar_f p), bo, jo, be, sk, su, sh, ma, st, so, ra, nr) := by
  subst hf
  refine ⟨m + 1, ?_⟩
  refine e5_9 hk hmn ⟨n + 2, ?_⟩ (m + 1) 0 (by omega) (by omega)
  exact e5_73 hk hm1 rfl rfl (fun fd' h => H _ _ _ _ _ _ _ _ _ _ _ _ _ _ h) (n + 2) 0 _ 0 (by omega) (by omega) (Nat.mod_lt _ (by decide)) (fun _ => rfl) oc_B0
end
end
section
/-! engine 6: bits -/
section
variable {post : SX → Prop} {n m : Nat} {t p : Nat → Nat} {fd : Int64} {cp cq : Int32} {bo jo be sk su sh ma st so ra nr : Nat → Int32}
theorem e6_57 (hk : ok_s n m t p) (hm1 : 1 ≤ m) (hM : sa_M p m ma) (H : ∀ fd', oc_A t p n m fd' → post ((nI n), (nI m), fd', cp, cq, (ar_f t), (ar_f p), bo, jo, be, sk, su, sh, ma, st, so, ra, nr)) :
    ∀ N i x fd, n - i < N → i ≤ n → sa_E t p m i x → oc_E t p n m i fd → wX_searchByBits_57 post N x (nI i) (nI n) (nI m) fd cp cq (ar_f t) (ar_f p) bo jo be sk su sh ma st so ra nr := by
  intro N
  induction N with
  | zero => intro i x fd z; exact absurd z (Nat.not_lt_zero _)
  | succ N ih =>
    intro i x fd hN hi hx hE
    obtain ⟨hn, hm, ht, hp⟩ := id hk
    rw [wX_searchByBits_57]
    dsimp only
    refine pk_le n i (fun h => ?_) (fun h => ⟨vp_in_nI (by omega) (by omega), ?_⟩)
    · have : i = n := by omega
      subst this
      exact H fd (oc_Ee hE)
    · rw [ar_at (by omega), l4_cl ht, s1_n hm1]
      have hx' := sa_Es hx hM (ht i)
      refine ⟨l4_in ht _, nm_e ?_⟩
      generalize ((x <<< ((1 : Int32) &&& 31)) ||| 1) &&& ma (t i) = x' at hx' ⊢
      have hb := hx' (m - 1) (by omega)
      rw [show m - 1 + 1 = m by omega] at hb
      rw [b_top (by omega), nI_1]
      refine ⟨fun g => nm_e (ih (i + 1) x' fd (by omega) (by omega) hx' (oc_En hE (kb_no (fun hs => ?_)))), fun g => ?_⟩
      · rw [hb.mpr ⟨by omega, hs⟩] at g
        cases g
      · have hs := (hb.mp (ts_nf g)).2
        have hs1 := hs.1
        rw [pk_sub hs1]
        exact mk_X (nm_e (ih (i + 1) x' _ (by omega) (by omega) hx' (oc_Em hE hs1 (by omega) hm1 (kb_oc h hs))))
theorem e6_22 (hp : l4_f p) (hm : m ≤ 12) (H : ∀ ma', sa_M p m ma' → ∃ N, wX_searchByBits_57 post N 0 0 (nI n) (nI m) fd cp cq (ar_f t) (ar_f p) bo jo be sk su sh ma' st so ra nr) :
    ∀ N i ma, m - i < N → i ≤ m → sa_M p i ma → wX_searchByBits_22 post (nI n) (nI m) fd cp cq N (nI i) (ar_f t) (ar_f p) bo jo be sk su sh ma st so ra nr := by
  intro N
  induction N with
  | zero => intro i sk h; exact absurd h (Nat.not_lt_zero _)
  | succ N ih =>
    intro i ma hN hi hT
    rw [wX_searchByBits_22]
    dsimp only
    refine pk_le m i (fun h => ?_) (fun h => ⟨vp_in_nI (by omega) (by omega), ?_⟩)
    · have : i = m := by omega
      subst this
      exact H ma hT
    · rw [ar_at (by omega), l4_cl hp, nI_1]
      exact ⟨l4_in hp _, l4_in hp _, nm_e (nm_e (ih (i + 1) _ (by omega) (by omega) (sa_Ms hT (by omega))))⟩
theorem e6_2 (H : ∀ ma', (∀ c, c < 4 → ma' c = 0) → ∃ N, wX_searchByBits_22 post (nI n) (nI m) fd cp cq N 0 (ar_f t) (ar_f p) bo jo be sk su sh ma' st so ra nr) :
    ∀ N i ma, 4 - i < N → i ≤ 4 → (∀ c, c < i → ma c = 0) → wX_searchByBits_2 post (nI n) (nI m) fd cp cq N (nI i) (ar_f t) (ar_f p) bo jo be sk su sh ma st so ra nr := by
  intro N
  induction N with
  | zero => intro i sk h; exact absurd h (Nat.not_lt_zero _)
  | succ N ih =>
    intro i ma hN hi hT
    rw [wX_searchByBits_2]
    dsimp only
    refine pk_le 4 i (fun h => ?_) (fun h => ⟨vp_in_nI (by omega) (by omega), ?_⟩)
    · exact H ma (fun c hc => hT c (by omega))
    · rw [nI_clamp (by omega), nI_1]
      refine nm_e (nm_e (ih (i + 1) _ (by omega) (by omega) (fun c hc => ?_)))
      by_cases e : c = i
      · subst e; exact pk_us
      · rw [pk_un e]; exact hT c (by omega)
theorem e6_end (hk : ok_s n m t p) (hm1 : 1 ≤ m) (hf : fd = 0) (H : eg_P post n m t p (oc_A t p n m)) : wpX_searchByBits post ((nI n), (nI m), fd, cp, cq, (ar_f t), (ar_f p), bo, jo, be, sk, su, sh, ma, st, so, ra, nr) := by
  subst hf
  refine ⟨5, e6_2 (fun ma' h1 => ⟨m + 1, ?_⟩) 5 0 ma (by omega) (by omega) (fun c hc => absurd hc (Nat.not_lt_zero c))⟩
  refine e6_22 hk.2.2.2 hk.2.1 (fun ma'' h2 => ⟨n + 1, ?_⟩) (m + 1) 0 ma' (by omega) (by omega) (sa_M0 h1)
  exact e6_57 hk hm1 h2 (fun fd' h => H _ _ _ _ _ _ _ _ _ _ _ _ _ _ h) (n + 1) 0 0 0 (by omega) (by omega) sa_E0 (oc_E0 hm1)
/-! engine 7: bits backwards -/
theorem e7_100 {J : _} {j : Nat} (hk : ok_s n m t p) (hm1 : 1 ≤ m) (hj : j + m ≤ n) (hM : bn_M p m m ma)
    (hJ : ∀ j' fd', j < j' → j' ≤ n + 13 → oc_B t p n m j' fd' → J (nI j') (nI n) (nI m) fd' cp cq (ar_f t) (ar_f p) bo jo be sk su sh ma st so ra nr) :
    ∀ N I L x fd, I < N → I ≤ m → bn_H t p m j (m - I) x → bn_L t p m j (m - I) L → oc_B t p n m (if I = 0 then j + 1 else j) fd →
      wX_searchByBitsBackwards_100 post J (((1 : Int32) <<< (nI m &&& 31)) - 1) (nI j) N (mi_p I) (nI L) x (nI n) (nI m) fd cp cq (ar_f t) (ar_f p) bo jo be sk su sh ma st so ra nr := by
  intro N
  induction N with
  | zero => intro I L x fd z; exact absurd z (Nat.not_lt_zero _)
  | succ N ih =>
    intro I L x fd hN hI hH hL hB
    obtain ⟨hn, hm, ht, hp⟩ := id hk
    have L1 := hL.1
    have L2 := hL.2.1
    rw [wX_searchByBitsBackwards_100]
    dsimp only
    cases I with
    | zero =>
      rw [if_pos rfl] at hB
      rw [nI_add]
      refine br_t mi_neg (nm_e (hJ (j + L) fd (by omega) (by omega) (oc_skip hB (by omega) (fun y y1 y2 ho => ?_))))
      obtain ⟨s, rfl⟩ : ∃ s, y = j + s := ⟨y - j, by omega⟩
      exact hL.2.2 s (by omega) (by omega) (by omega) (bn_ocF (by omega) ho)
    | succ i =>
      rw [if_neg (by omega)] at hB
      rw [mi_s, nI_add, nI_add]
      refine br_f (nI_pos (by omega)) (br_c (fun hx => nm_e (hJ (j + L) fd (by omega) (by omega) (oc_skip hB (by omega) (fun y y1 y2 ho => ?_)))) (fun hx => ⟨vp_in_nI (by omega) (by omega), ?_⟩))
      · subst hx
        obtain ⟨s, rfl⟩ : ∃ s, y = j + s := ⟨y - j, by omega⟩
        rcases Nat.lt_or_ge (s + (m - (i + 1))) m with g | g
        · exact bn_dead hH hm g ho
        · exact hL.2.2 s (by omega) (by omega) (by omega) (bn_ocF (by omega) ho)
      · rw [ar_at (by omega), l4_cl ht, s1_n hm1]
        have hG := bn_HG hH hM ht (by omega)
        rw [show j + (m - 1 - (m - (i + 1))) = j + i by omega] at hG
        refine ⟨l4_in ht _, nm_e (nm_r (mi_m i) ?_)⟩
        generalize x &&& ma (t (j + i)) = x' at hG ⊢
        have hF := bn_GF hG (by omega) hm
        have hH' := bn_GH hG hm
        rw [show m - (i + 1) + 1 = m - i by omega] at hF hH'
        rw [b_top (by omega)]
        refine ⟨fun g => nm_e (ih i L _ fd (by omega) (by omega) hH' ?_ ?_), fun g => ?_⟩
        · have hno : ¬ bn_F t p m j (m - (i + 1) + 1) := by
            rw [show m - (i + 1) + 1 = m - i by omega]
            intro z
            rw [hF.mpr z] at g
            cases g
          have := bn_Ln hL hno
          rw [show m - (i + 1) + 1 = m - i by omega] at this
          exact this
        · by_cases e : i = 0
          · subst e
            rw [if_pos rfl]
            refine oc_skip hB (by omega) (fun y y1 y2 ho => ?_)
            have : y = j := by omega
            subst this
            have := bn_ocF (t := t) (s := 0) (by omega) ho
            rw [hF.mpr this] at g
            cases g
          · rw [if_neg e]; exact hB
        · have hFF := hF.mp (ts_nf g)
          cases i with
          | zero =>
            refine br_t mi_neg (mk_X (nm_e (ih 0 L _ _ (by omega) (by omega) hH' ?_ ?_)))
            · have := bn_Lm (m - (0 + 1)) (by omega) hL
              exact this
            · rw [if_pos rfl]
              exact oc_set hB (by omega) (bn_Foc hj hFF)
          | succ i =>
            rw [mi_s, nI_1]
            refine br_f (nI_pos (by omega)) (nm_e (nm_e ?_))
            have := ih (i + 1) (i + 1) _ fd (by omega) (by omega) hH' ?_ (by rw [if_neg (by omega)]; exact hB)
            · rw [mi_s] at this
              exact this
            · have := bn_Ly (t := t) (p := p) (m := m) (j := j) (k := m - (i + 1 + 1)) (by omega)
              rw [show m - (i + 1 + 1) + 1 = m - (i + 1) by omega, show m - (m - (i + 1)) = i + 1 by omega] at this
              exact this
theorem e7_71 (hk : ok_s n m t p) (hm1 : 1 ≤ m) (hM : bn_M p m m ma) (H : ∀ fd', oc_A t p n m fd' → post ((nI n), (nI m), fd', cp, cq, (ar_f t), (ar_f p), bo, jo, be, sk, su, sh, ma, st, so, ra, nr)) :
    ∀ N j fd, n + 13 - j < N → j ≤ n + 13 → oc_B t p n m j fd → wX_searchByBitsBackwards_71 post (((1 : Int32) <<< (nI m &&& 31)) - 1) N (nI j) (nI n) (nI m) fd cp cq (ar_f t) (ar_f p) bo jo be sk su sh ma st so ra nr := by
  intro N
  induction N with
  | zero => intro j fd z; exact absurd z (Nat.not_lt_zero _)
  | succ N ih =>
    intro j fd hN hj hB
    have hn := hk.1
    have hm := hk.2.1
    rw [wX_searchByBitsBackwards_71]
    dsimp only
    rw [nI_add]
    refine pk_lt n (j + m) (fun h => H fd (oc_end hB h)) (fun h => nm_r (mi_d m) ⟨m + 1, ?_⟩)
    have := e7_100 (post := post) (cp := cp) (cq := cq) (bo := bo) (jo := jo) (be := be) (sk := sk) (su := su) (sh := sh) (st := st) (so := so) (ra := ra) (nr := nr) hk hm1 h hM (fun j' fd' h1 h2 h3 => ih j' fd' (by omega) h2 h3) (m + 1) m m (((1 : Int32) <<< (nI m &&& 31)) - 1) fd (by omega) (by omega) (by rw [Nat.sub_self]; exact bn_H0 hm) (by rw [Nat.sub_self]; exact bn_L0 hm1) (by rw [if_neg (by omega)]; exact hB)
    exact this
theorem e7_22 (hp : l4_f p) (hm : m ≤ 12) (hm1 : 1 ≤ m) (H : ∀ ma', bn_M p m m ma' → ∃ N, wX_searchByBitsBackwards_71 post (((1 : Int32) <<< (nI m &&& 31)) - 1) N 0 (nI n) (nI m) fd cp cq (ar_f t) (ar_f p) bo jo be sk su sh ma' st so ra nr) :
    ∀ N i ma, m - i < N → i ≤ m → bn_M p m i ma → wX_searchByBitsBackwards_22 post (nI n) (nI m) fd cp cq N (nI i) (ar_f t) (ar_f p) bo jo be sk su sh ma st so ra nr := by
  intro N
  induction N with
  | zero => intro i sk h; exact absurd h (Nat.not_lt_zero _)
  | succ N ih =>
    intro i ma hN hi hT
    rw [wX_searchByBitsBackwards_22]
    dsimp only
    refine pk_le m i (fun h => ?_) (fun h => ⟨vp_in_nI (by omega) (by omega), ?_⟩)
    · have : i = m := by omega
      subst this
      exact nm_e (H ma hT)
    · rw [ar_at (by omega), l4_cl hp, nI_1, s1_n hm1, pk_sub (by omega)]
      exact ⟨l4_in hp _, l4_in hp _, nm_e (nm_e (ih (i + 1) _ (by omega) (by omega) (bn_Ms hT h hm)))⟩
theorem e7_2 (H : ∀ ma', (∀ c, c < 4 → ma' c = 0) → ∃ N, wX_searchByBitsBackwards_22 post (nI n) (nI m) fd cp cq N 0 (ar_f t) (ar_f p) bo jo be sk su sh ma' st so ra nr) :
    ∀ N i ma, 4 - i < N → i ≤ 4 → (∀ c, c < i → ma c = 0) → wX_searchByBitsBackwards_2 post (nI n) (nI m) fd cp cq N (nI i) (ar_f t) (ar_f p) bo jo be sk su sh ma st so ra nr := by
  intro N
  induction N with
  | zero => intro i sk h; exact absurd h (Nat.not_lt_zero _)
  | succ N ih =>
    intro i ma hN hi hT
    rw [wX_searchByBitsBackwards_2]
    dsimp only
    refine pk_le 4 i (fun h => ?_) (fun h => ⟨vp_in_nI (by omega) (by omega), ?_⟩)
    · exact H ma (fun c hc => hT c (by omega))
    · rw [nI_clamp (by omega), nI_1]
      refine nm_e (nm_e (ih (i + 1) _ (by omega) (by omega) (fun c hc => ?_)))
      by_cases e : c = i
      · subst e; exact pk_us
      · rw [pk_un e]; exact hT c (by omega)
theorem e7_end (hk : ok_s n m t p) (hm1 : 1 ≤ m) (hf : fd = 0) (H : eg_P post n m t p (oc_A t p n m)) : wpX_searchByBitsBackwards post ((nI n), (nI m), fd, cp, cq, (ar_f t), (ar_f p), bo, jo, be, sk, su, sh, ma, st, so, ra, nr) := by
  subst hf
  refine ⟨5, e7_2 (fun ma' h1 => ⟨m + 1, ?_⟩) 5 0 ma (by omega) (by omega) (fun c hc => absurd hc (Nat.not_lt_zero c))⟩
  refine e7_22 hk.2.2.2 hk.2.1 hm1 (fun ma'' h2 => ⟨n + 14, ?_⟩) (m + 1) 0 ma' (by omega) (by omega) (bn_M0 h1)
  exact e7_71 hk hm1 h2 (fun fd' h => H _ _ _ _ _ _ _ _ _ _ _ _ _ _ h) (n + 14) 0 0 (by omega) (by omega) oc_B0
end
end
section
/-! engine 9: a table of states -/
theorem m4_n (a : Nat) : nI a * 4 = nI (a * 4) := pk_mul a 4
/-- row s up to c -/
def kd_r (p : Nat → Nat) (m s c : Nat) (st : Nat → Int32) : Prop := ∀ c', c' < c → ∃ d, st (s * 4 + c') = nI d ∧ kd_D p m s c' d
/-- the rows below s -/
def kd_R (p : Nat → Nat) (m s : Nat) (st : Nat → Int32) : Prop := ∀ s', s' < s → kd_r p m s' 4 st
theorem kd_rs {p : Nat → Nat} {m s c d : Nat} {st : Nat → Int32} (h : kd_r p m s c st) (hd : kd_D p m s c d) : kd_r p m s (c + 1) (upd st (s * 4 + c) (nI d)) := by
  intro c' hc
  by_cases e : c' = c
  · subst e; exact ⟨d, pk_us, hd⟩
  · rw [pk_un (by omega)]; exact h c' (by omega)
theorem kd_Rk {p : Nat → Nat} {m s c : Nat} {v : Int32} {st : Nat → Int32} (h : kd_R p m s st) : kd_R p m s (upd st (s * 4 + c) v) := by
  intro s' hs c' hc
  rw [pk_un (by omega)]
  exact h s' hs c' hc
theorem kd_Rs {p : Nat → Nat} {m s : Nat} {st : Nat → Int32} (h : kd_R p m s st) (hr : kd_r p m s 4 st) : kd_R p m (s + 1) st := by
  intro s' hs
  by_cases e : s' = s
  · subst e; exact hr
  · exact h s' (by omega)
section
variable {post : SX → Prop} {n m : Nat} {t p : Nat → Nat} {fd : Int64} {cp cq : Int32} {bo jo be sk su sh ma st so ra nr : Nat → Int32}
theorem e9_155 (hk : ok_s n m t p) (hm1 : 1 ≤ m) (hR : kd_R p m (m + 1) st) (H : ∀ fd', oc_A t p n m fd' → post ((nI n), (nI m), fd', cp, cq, (ar_f t), (ar_f p), bo, jo, be, sk, su, sh, ma, st, so, ra, nr)) :
    ∀ N i b fd, n - i < N → i ≤ n → kb_M t p m i b → oc_E t p n m i fd → wX_searchByStates_155 post N (nI b) (nI i) (nI n) (nI m) fd cp cq (ar_f t) (ar_f p) bo jo be sk su sh ma st so ra nr := by
  intro N
  induction N with
  | zero => intro i x fd z; exact absurd z (Nat.not_lt_zero _)
  | succ N ih =>
    intro i b fd hN hi hM hE
    obtain ⟨hn, hm, ht, hp⟩ := id hk
    have b1 := hM.1
    have l1 := ht i
    rw [wX_searchByStates_155]
    dsimp only
    refine pk_le n i (fun h => ?_) (fun h => ⟨vp_in_nI (by omega) (by omega), ?_⟩)
    · have : i = n := by omega
      subst this
      exact H fd (oc_Ee hE)
    · obtain ⟨d, d1, d2⟩ := hR b (by omega) (t i) l1
      have hM' := kd_M hM d2
      have d3 := d2.1
      rw [ar_at (by omega), m4_n, nI_add, nI_clamp (by omega), d1, nI_1]
      refine ⟨vp_in_nI (by omega) (by omega), nm_e (pk_eq d m (fun g => ?_) (fun g => nm_e ?_))⟩
      · subst g
        have hs1 := hM'.2.1.1
        rw [pk_sub hs1]
        exact mk_X (nm_e (ih (i + 1) d _ (by omega) (by omega) hM' (oc_Em hE hs1 (by omega) hm1 (kb_M_oc h hM'))))
      · exact ih (i + 1) d fd (by omega) (by omega) hM' (oc_En hE (kb_M_no hM' g))
theorem e9_49 {J : _} {s b : Nat} (hk : ok_s n m t p) (hs1 : 1 ≤ s) (hsm : s ≤ m) (hB : kb_B p s b)
    (hJ : ∀ b' st', b' ≤ m → (s + 1 ≤ m → kb_B p (s + 1) b') → kd_R p m (s + 1) st' → J (nI b') (nI (s + 1)) (ar_f t) (ar_f p) bo jo be sk su sh ma st' so ra nr) :
    ∀ N c st, 4 - c < N → c ≤ 4 → kd_R p m s st → kd_r p m s c st → wX_searchByStates_49 post J (nI b) (nI s) (nI n) (nI m) fd cp cq N (nI c) (ar_f t) (ar_f p) bo jo be sk su sh ma st so ra nr := by
  intro N
  induction N with
  | zero => intro c st z; exact absurd z (Nat.not_lt_zero _)
  | succ N ih =>
    intro c st hN hc hR hr
    obtain ⟨hn, hm, ht, hp⟩ := id hk
    have b1 := hB.1
    have l1 := hp s
    rw [wX_searchByStates_49]
    dsimp only
    refine pk_le 4 c (fun h => ?_) (fun h => ?_)
    · have : c = 4 := by omega
      subst this
      have hR' := kd_Rs hR hr
      refine pk_le m s (fun g => ?_) (fun g => ⟨vp_in_nI (by omega) (by omega), ?_⟩)
      · rw [nI_1]
        exact nm_e (hJ b st (by omega) (fun z => by omega) hR')
      · obtain ⟨d, d1, d2⟩ := hR b b1 (p s) l1
        have d3 := d2.1
        rw [ar_at (by omega), m4_n, nI_add, nI_clamp (by omega), d1, nI_1]
        exact ⟨vp_in_nI (by omega) (by omega), nm_e (nm_e (hJ d st d3 (fun _ => kd_b g hB d2) hR'))⟩
    · have no : (s < m → c ≠ p s) → wX_searchByStates_77 post J (wX_searchByStates_49 post J (nI b) (nI s) (nI n) (nI m) fd cp cq N) (nI b) (nI s) (nI c) 0 (nI n) (nI m) fd cp cq (ar_f t) (ar_f p) bo jo be sk su sh ma st so ra nr := by
        intro hno
        obtain ⟨d, d1, d2⟩ := hR b b1 c h
        have d3 := d2.1
        unfold wX_searchByStates_77
        rw [m4_n, m4_n, nI_add, nI_add, nI_clamp (by omega), nI_clamp (by omega), d1, bn_v (by omega), nI_1]
        refine br_t rfl ⟨vp_in_nI (by omega) (by omega), vp_in_nI (by omega) (by omega), nm_e (nm_e (ih (c + 1) _ (by omega) (by omega) (kd_Rk hR) (kd_rs hr (kd_n hsm hno hB d2))))⟩
      refine pk_le m s (fun g => no (fun z => by omega)) (fun g => ⟨vp_in_nI (by omega) (by omega), ?_⟩)
      rw [ar_at (by omega)]
      refine pk_eq c (p s) (fun z => ?_) (fun z => no (fun _ => z))
      unfold wX_searchByStates_77
      rw [m4_n, m4_n, nI_add, nI_add, nI_clamp (by omega), nI_clamp (by omega), nI_1, nI_1, bn_w (by omega)]
      exact br_f (by decide) ⟨vp_in_nI (by omega) (by omega), nm_e (nm_e (ih (c + 1) _ (by omega) (by omega) (kd_Rk hR) (kd_rs hr (kd_y g z))))⟩
theorem e9_39 (hk : ok_s n m t p) (hm1 : 1 ≤ m) (H : ∀ st', kd_R p m (m + 1) st' → ∃ N, wX_searchByStates_155 post N 0 0 (nI n) (nI m) fd cp cq (ar_f t) (ar_f p) bo jo be sk su sh ma st' so ra nr) :
    ∀ N s b st, m + 1 - s < N → 1 ≤ s → s ≤ m + 1 → b ≤ m → (s ≤ m → kb_B p s b) → kd_R p m s st → wX_searchByStates_39 post (nI n) (nI m) fd cp cq N (nI b) (nI s) (ar_f t) (ar_f p) bo jo be sk su sh ma st so ra nr := by
  intro N
  induction N with
  | zero => intro s b st z; exact absurd z (Nat.not_lt_zero _)
  | succ N ih =>
    intro s b st hN hs1 hs hb hB hR
    have hn := hk.1
    have hm := hk.2.1
    rw [wX_searchByStates_39]
    dsimp only
    refine pk_lt m s (fun h => ?_) (fun h => ⟨5, ?_⟩)
    · have : s = m + 1 := by omega
      subst this
      exact H st hR
    · exact e9_49 hk hs1 h (hB h) (fun b' st' h1 h2 h3 => ih (s + 1) b' st' (by omega) (by omega) (by omega) h1 h2 h3) 5 0 st (by omega) (by omega) hR (fun c' hc => absurd hc (Nat.not_lt_zero c'))
theorem e9_2 (hk : ok_s n m t p) (hm1 : 1 ≤ m) (H : ∀ st', kd_r p m 0 4 st' → ∃ N, wX_searchByStates_39 post (nI n) (nI m) fd cp cq N 0 1 (ar_f t) (ar_f p) bo jo be sk su sh ma st' so ra nr) :
    ∀ N c st, 4 - c < N → c ≤ 4 → kd_r p m 0 c st → wX_searchByStates_2 post (nI n) (nI m) fd cp cq N (nI c) (ar_f t) (ar_f p) bo jo be sk su sh ma st so ra nr := by
  intro N
  induction N with
  | zero => intro i sk h; exact absurd h (Nat.not_lt_zero _)
  | succ N ih =>
    intro c st hN hc hr
    obtain ⟨hn, hm, ht, hp⟩ := id hk
    have l1 := hp 0
    rw [wX_searchByStates_2]
    dsimp only
    refine pk_le 4 c (fun h => ?_) (fun h => ?_)
    · have : c = 4 := by omega
      subst this
      exact H st hr
    · rw [ar_0, nI_clamp (by omega), nI_1, show vp_nar .byte ((1 : Int32).toInt8.toInt32) = nI 1 from bn_w (v := 1) (by omega), show vp_nar .byte ((0 : Int32).toInt8.toInt32) = nI 0 from bn_w (v := 0) (by omega)]
      refine pk_eq c (p 0) (fun g => ⟨vp_in_nI (by omega) (by omega), nm_e (nm_e ?_)⟩) (fun g => ⟨vp_in_nI (by omega) (by omega), nm_e (nm_e ?_)⟩)
      · have := kd_rs hr (kd_0y hm1 g)
        rw [Nat.zero_mul, Nat.zero_add] at this
        exact ih (c + 1) _ (by omega) (by omega) this
      · have := kd_rs hr (kd_0n (m := m) g)
        rw [Nat.zero_mul, Nat.zero_add] at this
        exact ih (c + 1) _ (by omega) (by omega) this
theorem e9_end (hk : ok_s n m t p) (hm1 : 1 ≤ m) (hf : fd = 0) (H : eg_P post n m t p (oc_A t p n m)) : wpX_searchByStates post ((nI n), (nI m), fd, cp, cq, (ar_f t), (ar_f p), bo, jo, be, sk, su, sh, ma, st, so, ra, nr) := by
  subst hf
  refine ⟨5, e9_2 hk hm1 (fun st' h1 => ⟨m + 2, ?_⟩) 5 0 st (by omega) (by omega) (fun c hc => absurd hc (Nat.not_lt_zero c))⟩
  refine e9_39 hk hm1 (fun st'' h2 => ⟨n + 1, ?_⟩) (m + 2) 1 0 st' (by omega) (by omega) (by omega) (by omega) (fun _ => kb_B1) (fun s' hs => ?_)
  · exact e9_155 hk hm1 h2 (fun fd' h => H _ _ _ _ _ _ _ _ _ _ _ _ _ _ h) (n + 1) 0 0 0 (by omega) (by omega) kb_M0 (oc_E0 hm1)
  · have : s' = 0 := by omega
    subst this
    exact h1
end
end
section
/-! engine 8: sorted suffixes -/
/-- an array holds naturals, up to n -/
def as_N (n : Nat) (a : Nat → Int32) (s : Nat → Nat) : Prop := ∀ q, q < n → a q = nI (s q)
section
variable {post : SX → Prop} {n m : Nat} {t p : Nat → Nat} {fd : Int64} {cp cq : Int32} {bo jo be sk su sh ma st so ra nr : Nat → Int32}
theorem e8_rank {post : Int32 → Prop} {r : Nat → Nat} {i : Nat} (hn : n ≤ 60) (hra : as_N n ra r) (hi : i < 2 ^ 30) (h : post (mi_p (rn_x n r i))) : wpX_rankAt post ((nI n), (nI m), fd, cp, cq, (ar_f t), (ar_f p), bo, jo, be, sk, su, sh, ma, st, so, ra, nr) (nI i) := by
  unfold wpX_rankAt
  dsimp only
  unfold rn_x at h
  refine pk_le n i (fun g => ?_) (fun g => ⟨vp_in_nI (by omega) (by omega), ?_⟩)
  · rw [if_neg (by omega), mi_0] at h
    exact h
  · rw [if_pos g, mi_s] at h
    rw [nI_clamp (by omega), hra i g]
    exact h
theorem e8_goes {post : Int32 → Prop} {r : Nat → Nat} {i j h : Nat} (hn : n ≤ 60) (ht : l4_f t) (hra : as_N n ra r) (hr : ∀ q, q < n → r q ≤ 63) (h1 : 1 ≤ h) (hh : h < 2 ^ 20) (hK : rn_K t n h r) (hi : i < n) (hj : j < n)
    (y1 : sv_n t n (h + h) i < sv_n t n (h + h) j → post 1) (y0 : ¬ sv_n t n (h + h) i < sv_n t n (h + h) j → post 0) : wpX_goesBefore post ((nI n), (nI m), fd, cp, cq, (ar_f t), (ar_f p), bo, jo, be, sk, su, sh, ma, st, so, ra, nr) (nI i) (nI j) (nI h) := by
  obtain ⟨g, rfl⟩ : ∃ g, h = g + 1 := ⟨h - 1, by omega⟩
  rw [rn_go ht hK hi hj] at y1 y0
  have b1 := hr i hi
  have b2 := hr j hj
  have bx : ∀ q, rn_x n r q ≤ 64 := by
    intro q
    unfold rn_x
    by_cases e : q < n
    · rw [if_pos e]; have := hr q e; omega
    · rw [if_neg e]; omega
  unfold wpX_goesBefore
  dsimp only
  rw [nI_add, nI_add, nI_clamp (by omega), nI_clamp (by omega), hra i hi, hra j hj]
  refine ⟨vp_in_nI (by omega) (by omega), vp_in_nI (by omega) (by omega), pk_eq (r i) (r j) (fun e => ?_) (fun e => ⟨vp_in_nI (by omega) (by omega), vp_in_nI (by omega) (by omega), pk_le (r j) (r i) (fun z => y0 (by omega)) (fun z => y1 (by omega))⟩)⟩
  refine e8_rank hn hra (by omega) (e8_rank hn hra (by omega) ?_)
  have c1 := bx (i + (g + 1))
  have c2 := bx (j + (g + 1))
  rw [mi_ll (by omega) (by omega)]
  exact ⟨fun z => y0 (by omega), fun z => y1 (by omega)⟩
/-! one round of sorting -/
theorem e8_20 {J : _} {r s : Nat → Nat} {h k : Nat} (hn : n ≤ 60) (ht : l4_f t) (hra : as_N n ra r) (hr : ∀ q, q < n → r q ≤ 63) (h1 : 1 ≤ h) (hh : h < 2 ^ 20) (hK : rn_K t n h r) (hkn : k < n) (hP : so_P n s) (hO : so_O (sv_n t n (h + h)) k s)
    (hJ : ∀ so' s', as_N n so' s' → so_P n s' → so_O (sv_n t n (h + h)) (k + 1) s' → J (nI (k + 1)) (ar_f t) (ar_f p) bo jo be sk su sh ma st so' ra nr) :
    ∀ N i so, i < N → i ≤ k → (∀ q, q < n → q ≠ i → so q = nI (so_ins s k i q)) → (∀ q, i ≤ q → q < k → sv_n t n (h + h) (s k) < sv_n t n (h + h) (s q)) → wX_sortByHalves_20 post J (nI h) (nI k) (nI (s k)) (nI n) (nI m) fd cp cq N (nI i) (ar_f t) (ar_f p) bo jo be sk su sh ma st so ra nr := by
  intro N
  induction N with
  | zero => intro i so z; exact absurd z (Nat.not_lt_zero _)
  | succ N ih =>
    intro i so hN hi hs hlt
    have bk := hP.1 k hkn
    have fin : (∀ j, i = j + 1 → sv_n t n (h + h) (s j) ≤ sv_n t n (h + h) (s k)) → J (nI (k + 1)) (ar_f t) (ar_f p) bo jo be sk su sh ma st (upd so i (nI (s k))) ra nr := by
      intro hle
      refine hJ _ (so_ins s k i) (fun q hq => ?_) (so_insP hP hkn hi) (so_insO hO hi hlt hle)
      by_cases e : q = i
      · subst e
        rw [pk_us]
        unfold so_ins
        rw [if_neg (by omega), if_pos rfl]
      · rw [pk_un e]; exact hs q hq e
    rw [wX_sortByHalves_20]
    dsimp only
    rw [c0_el (by omega), nI_clamp (by omega), bn_v (by omega), nI_1]
    refine ⟨fun z => ⟨vp_in_nI (by omega) (by omega), nm_e (nm_e (fin (fun j hj => by omega)))⟩, fun z => ?_⟩
    obtain ⟨j, rfl⟩ : ∃ j, i = j + 1 := ⟨i - 1, by omega⟩
    have ej : so j = nI (s j) := by
      rw [hs j (by omega) (by omega)]
      unfold so_ins
      rw [if_pos (by omega)]
    have bj := hP.1 j (by omega)
    rw [s1_n (by omega), Nat.add_sub_cancel, nI_clamp (by omega), ej, bn_v (by omega)]
    refine ⟨vp_in_nI (by omega) (by omega), e8_goes hn ht hra hr h1 hh hK bk bj (fun g => br_f (by decide) ⟨vp_in_nI (by omega) (by omega), vp_in_nI (by omega) (by omega), nm_e (nm_r (pk_m1 j) ?_)⟩) (fun g => br_t rfl ⟨vp_in_nI (by omega) (by omega), nm_e (nm_e (fin (fun j' hj' => ?_)))⟩)⟩
    · refine ih j _ (by omega) (by omega) (fun q hq hne => ?_) (fun q q1 q2 => ?_)
      · by_cases e : q = j + 1
        · subst e
          rw [pk_us]
          unfold so_ins
          rw [if_neg (by omega), if_neg (by omega), if_pos (by omega), Nat.add_sub_cancel]
        · rw [pk_un e, hs q hq e]
          unfold so_ins
          by_cases a : q < j
          · rw [if_pos (by omega), if_pos a]
          · rw [if_neg (show ¬ q < j + 1 by omega), if_neg (show ¬ q = j + 1 by omega), if_neg (show ¬ q < j by omega), if_neg (show ¬ q = j by omega)]
      · by_cases e : q = j
        · subst e; exact g
        · exact hlt q (by omega) q2
    · have : j' = j := by omega
      subst this
      omega
theorem e8_163 {v : Nat → Nat} (hn : n ≤ 60) (hnr : as_N n nr v) (H : ∀ ra', as_N n ra' v → post ((nI n), (nI m), fd, cp, cq, (ar_f t), (ar_f p), bo, jo, be, sk, su, sh, ma, st, so, ra', nr)) :
    ∀ N i ra, n - i < N → i ≤ n → as_N i ra v → wX_sortByHalves_163 post (nI n) (nI m) fd cp cq N (nI i) (ar_f t) (ar_f p) bo jo be sk su sh ma st so ra nr := by
  intro N
  induction N with
  | zero => intro i ra z; exact absurd z (Nat.not_lt_zero _)
  | succ N ih =>
    intro i ra hN hi hA
    rw [wX_sortByHalves_163]
    dsimp only
    refine pk_le n i (fun h => ?_) (fun h => ⟨vp_in_nI (by omega) (by omega), vp_in_nI (by omega) (by omega), ?_⟩)
    · have : i = n := by omega
      subst this
      exact H ra hA
    · rw [nI_clamp (by omega), hnr i h, nI_1]
      refine nm_e (nm_e (ih (i + 1) _ (by omega) (by omega) (fun q hq => ?_)))
      by_cases e : q = i
      · subst e; exact pk_us
      · rw [pk_un e]; exact hA q (by omega)
theorem e8_93 {r s : Nat → Nat} {h : Nat} (hn : n ≤ 60) (hn1 : 1 ≤ n) (ht : l4_f t) (hra : as_N n ra r) (hr : ∀ q, q < n → r q ≤ 63) (h1 : 1 ≤ h) (hh : h < 2 ^ 20) (hK : rn_K t n h r) (hso : as_N n so s) (hP : so_P n s) (hO : so_O (sv_n t n (h + h)) n s)
    (H : ∀ nr' v, as_N n nr' v → (∀ q, q < n → v q ≤ 63) → rn_K t n (h + h) v → ∃ N, wX_sortByHalves_163 post (nI n) (nI m) fd cp cq N 0 (ar_f t) (ar_f p) bo jo be sk su sh ma st so ra nr') :
    ∀ N k nr v, n - k < N → 1 ≤ k → k ≤ n → (∀ a, a < k → nr (s a) = nI (v (s a)) ∧ v (s a) < k) → so_N (sv_n t n (h + h)) k s v → wX_sortByHalves_93 post (nI h) (nI n) (nI m) fd cp cq N (nI k) (ar_f t) (ar_f p) bo jo be sk su sh ma st so ra nr := by
  intro N
  induction N with
  | zero => intro k nr v z; exact absurd z (Nat.not_lt_zero _)
  | succ N ih =>
    intro k nr v hN hk1 hk hv hNN
    rw [wX_sortByHalves_93]
    dsimp only
    refine pk_le n k (fun z => ?_) (fun z => ?_)
    · have : k = n := by omega
      subst this
      refine H nr v (fun q hq => ?_) (fun q hq => ?_) (so_NK hP hNN)
      · obtain ⟨a, ha, rfl⟩ := hP.2 q hq
        exact (hv a ha).1
      · obtain ⟨a, ha, rfl⟩ := hP.2 q hq
        have := (hv a ha).2
        omega
    · have b0 := hP.1 (k - 1) (by omega)
      have b1 := hP.1 k z
      have v0 := hv (k - 1) (by omega)
      have upd_ok : ∀ w, w ≤ k → ∀ a, a < k + 1 → upd nr (s k) (nI w) (s a) = nI (un_f v (s k) w (s a)) ∧ un_f v (s k) w (s a) < k + 1 := by
        intro w hw a ha
        by_cases e : s a = s k
        · rw [e, pk_us, un_s]; exact ⟨rfl, by omega⟩
        · rw [pk_un e, un_n e]
          have : a ≠ k := fun g => e (by rw [g])
          have := hv a (by omega)
          exact ⟨this.1, by omega⟩
      have e0 : nI (v (s (k - 1))) + 0 = nI (v (s (k - 1))) := Int32.add_zero _
      rw [s1_n hk1, nI_clamp (by omega), nI_clamp (by omega), hso (k - 1) (by omega), hso k z, nI_clamp (by omega), nI_clamp (by omega), v0.1, e0, nI_1, nI_1]
      refine ⟨vp_in_nI (by omega) (by omega), vp_in_nI (by omega) (by omega), e8_goes hn ht hra hr h1 hh hK b0 b1 (fun g => ⟨vp_in_nI (by omega) (by omega), vp_in_nI (by omega) (by omega), vp_in_nI (by omega) (by omega), br_f (by decide) ⟨vp_in_nI (by omega) (by omega), nm_e (nm_e ?_)⟩⟩) (fun g => ⟨vp_in_nI (by omega) (by omega), vp_in_nI (by omega) (by omega), vp_in_nI (by omega) (by omega), br_t rfl ⟨vp_in_nI (by omega) (by omega), nm_e (nm_e ?_)⟩⟩)⟩
      · exact ih (k + 1) _ (un_f v (s k) (v (s (k - 1)) + 1)) (by omega) (by omega) (by omega) (upd_ok _ (by omega)) (so_Ns hO hk1 z hNN (by rw [if_pos g]))
      · exact ih (k + 1) _ (un_f v (s k) (v (s (k - 1)))) (by omega) (by omega) (by omega) (upd_ok _ (by omega)) (so_Ns hO hk1 z hNN (by rw [if_neg g, Nat.add_zero]))
theorem e8_s2 {r : Nat → Nat} {h : Nat} (hn : n ≤ 60) (hn1 : 1 ≤ n) (ht : l4_f t) (hra : as_N n ra r) (hr : ∀ q, q < n → r q ≤ 63) (h1 : 1 ≤ h) (hh : h < 2 ^ 20) (hK : rn_K t n h r)
    (H : ∀ so' s, as_N n so' s → so_P n s → so_O (sv_n t n (h + h)) n s → ∃ N, wX_sortByHalves_93 post (nI h) (nI n) (nI m) fd cp cq N 1 (ar_f t) (ar_f p) bo jo be sk su sh ma st so' ra (upd nr (s 0) 0)) :
    ∀ N k so s, n - k < N → 1 ≤ k → k ≤ n → as_N n so s → so_P n s → so_O (sv_n t n (h + h)) k s → wX_sortByHalves_2 post (nI h) (nI n) (nI m) fd cp cq N (nI k) (ar_f t) (ar_f p) bo jo be sk su sh ma st so ra nr := by
  intro N
  induction N with
  | zero => intro k so s z; exact absurd z (Nat.not_lt_zero _)
  | succ N ih =>
    intro k so s hN hk1 hk hso hP hO
    rw [wX_sortByHalves_2]
    dsimp only
    refine pk_le n k (fun z => ?_) (fun z => ⟨vp_in_nI (by omega) (by omega), ?_⟩)
    · have : k = n := by omega
      subst this
      have b0 := hP.1 0 (by omega)
      rw [hso 0 (by omega), nI_clamp (by omega)]
      exact ⟨vp_in_nI (by omega) (by omega), nm_e (H so s hso hP hO)⟩
    · rw [nI_clamp (by omega), hso k z]
      refine nm_e ⟨k + 1, ?_⟩
      refine e8_20 hn ht hra hr h1 hh hK z hP hO (fun so' s' a1 a2 a3 => ih (k + 1) so' s' (by omega) (by omega) (by omega) a1 a2 a3) (k + 1) k so (by omega) (by omega) (fun q hq hne => ?_) (fun q q1 q2 => by omega)
      rw [hso q hq]
      unfold so_ins
      by_cases e : q < k
      · rw [if_pos e]
      · rw [if_neg e, if_neg hne, if_neg (by omega)]
theorem e8_half {r s : Nat → Nat} {h : Nat} (hn : n ≤ 60) (hn1 : 1 ≤ n) (ht : l4_f t) (hra : as_N n ra r) (hr : ∀ q, q < n → r q ≤ 63) (h1 : 1 ≤ h) (hh : h < 2 ^ 20) (hK : rn_K t n h r) (hso : as_N n so s) (hP : so_P n s)
    (H : ∀ so' ra' nr' s' r', as_N n so' s' → so_P n s' → so_O (sv_n t n (h + h)) n s' → as_N n ra' r' → (∀ q, q < n → r' q ≤ 63) → rn_K t n (h + h) r' → post ((nI n), (nI m), fd, cp, cq, (ar_f t), (ar_f p), bo, jo, be, sk, su, sh, ma, st, so', ra', nr')) : wpX_sortByHalves post ((nI n), (nI m), fd, cp, cq, (ar_f t), (ar_f p), bo, jo, be, sk, su, sh, ma, st, so, ra, nr) (nI h) := by
  refine ⟨n + 1, ?_⟩
  refine e8_s2 hn hn1 ht hra hr h1 hh hK (fun so' s' a1 a2 a3 => ⟨n + 1, ?_⟩) (n + 1) 1 so s (by omega) (by omega) hn1 hso hP (fun a b hab hb => ?_)
  · refine e8_93 hn hn1 ht hra hr h1 hh hK a1 a2 a3 (fun nr' v c1 c2 c3 => ⟨n + 1, ?_⟩) (n + 1) 1 (upd nr (s' 0) 0) (fun _ => 0) (by omega) (by omega) hn1 (fun a ha => ?_) so_N1
    · exact e8_163 hn c1 (fun ra' d1 => H so' ra' nr' s' v a1 a2 a3 d1 c2 c3) (n + 1) 0 ra (by omega) (by omega) (fun q hq => absurd hq (Nat.not_lt_zero q))
    · have : a = 0 := by omega
      subst this
      exact ⟨pk_us, by omega⟩
  · have : a = b := by omega
    subst this
    exact Nat.le_refl _
end
end
section
/-! engine 8: all rounds, the two borders, the search -/
theorem m2_n (a : Nat) : nI a * 2 = nI (a * 2) := pk_mul a 2
theorem m2_l (a : Nat) : 2 * nI a = nI (2 * a) := pk_mul 2 a
section
variable {post : SX → Prop} {n m : Nat} {t p : Nat → Nat} {fd : Int64} {cp cq : Int32} {bo jo be sk su sh ma st so ra nr : Nat → Int32}
theorem e8_38 (hn : n ≤ 60) (hn1 : 1 ≤ n) (ht : l4_f t) (H : ∀ so' ra' nr' s h, 2 * n ≤ h → as_N n so' s → so_P n s → so_O (sv_n t n h) n s → post ((nI n), (nI m), fd, cp, cq, (ar_f t), (ar_f p), bo, jo, be, sk, su, sh, ma, st, so', ra', nr')) :
    ∀ N h so ra nr s r, 240 - h < N → 1 ≤ h → h ≤ 240 → as_N n so s → so_P n s → (2 ≤ h → so_O (sv_n t n h) n s) → as_N n ra r → (∀ q, q < n → r q ≤ 63) → rn_K t n h r → wX_sortSuffixes_38 post N (nI h) (nI n) (nI m) fd cp cq (ar_f t) (ar_f p) bo jo be sk su sh ma st so ra nr := by
  intro N
  induction N with
  | zero => intro h so ra nr s r z; exact absurd z (Nat.not_lt_zero _)
  | succ N ih =>
    intro h so ra nr s r hN h1 hh hso hP hO hra hr hK
    rw [wX_sortSuffixes_38]
    dsimp only
    rw [m2_l]
    refine pk_le (2 * n) h (fun z => H so ra nr s h z hso hP (hO (by omega))) (fun z => ?_)
    refine e8_half hn hn1 ht hra hr h1 (by omega) hK hso hP (fun so' ra' nr' s' r' a1 a2 a3 a4 a5 a6 => ?_)
    dsimp only
    rw [m2_n, Nat.mul_two]
    exact nm_e (ih (h + h) so' ra' nr' s' r' (by omega) (by omega) (by omega) a1 a2 (fun _ => a3) a4 a5 a6)
theorem e8_f2 (hn : n ≤ 60) (hn1 : 1 ≤ n) (ht : l4_f t) (H : ∀ so' ra', as_N n so' (fun q => q) → as_N n ra' t → ∃ N, wX_sortSuffixes_38 post N 1 (nI n) (nI m) fd cp cq (ar_f t) (ar_f p) bo jo be sk su sh ma st so' ra' nr) :
    ∀ N i so ra, n - i < N → i ≤ n → as_N i so (fun q => q) → as_N i ra t → wX_sortSuffixes_2 post (nI n) (nI m) fd cp cq N (nI i) (ar_f t) (ar_f p) bo jo be sk su sh ma st so ra nr := by
  intro N
  induction N with
  | zero => intro i so ra z; exact absurd z (Nat.not_lt_zero _)
  | succ N ih =>
    intro i so ra hN hi hso hra
    rw [wX_sortSuffixes_2]
    dsimp only
    refine pk_le n i (fun z => ?_) (fun z => ⟨vp_in_nI (by omega) (by omega), ?_⟩)
    · have : i = n := by omega
      subst this
      exact H so ra hso hra
    · rw [ar_at (by omega), bn_w (by omega), nI_clamp (by omega), nI_1]
      refine nm_e ⟨vp_in_nI (by omega) (by omega), vp_in_nI (by omega) (by omega), nm_e (nm_e (ih (i + 1) _ _ (by omega) (by omega) (fun q hq => ?_) (fun q hq => ?_)))⟩
      · by_cases e : q = i
        · subst e; exact pk_us
        · rw [pk_un e]; exact hso q (by omega)
      · by_cases e : q = i
        · subst e; exact pk_us
        · rw [pk_un e]; exact hra q (by omega)
theorem e8_sort (hn : n ≤ 60) (hn1 : 1 ≤ n) (ht : l4_f t) (H : ∀ so' ra' nr' s h, 2 * n ≤ h → as_N n so' s → so_P n s → so_O (sv_n t n h) n s → post ((nI n), (nI m), fd, cp, cq, (ar_f t), (ar_f p), bo, jo, be, sk, su, sh, ma, st, so', ra', nr')) : wpX_sortSuffixes post ((nI n), (nI m), fd, cp, cq, (ar_f t), (ar_f p), bo, jo, be, sk, su, sh, ma, st, so, ra, nr) := by
  refine ⟨n + 1, e8_f2 hn hn1 ht (fun so' ra' a1 a2 => ⟨240, ?_⟩) (n + 1) 0 so ra (by omega) (by omega) (fun q hq => absurd hq (Nat.not_lt_zero q)) (fun q hq => absurd hq (Nat.not_lt_zero q))⟩
  exact e8_38 hn hn1 ht H 240 1 so' ra' nr (fun q => q) t (by omega) (by omega) (by omega) a1 ⟨fun k hk => hk, fun i hi => ⟨i, hi, rfl⟩⟩ (fun z => by omega) a2 (fun q _ => by have := ht q; omega) rn_K1
/-- compareSuffix -/
theorem e8_cmp2 {post : Int32 → Prop} {i : Nat} (hk : ok_s n m t p) (hm1 : 1 ≤ m) (hi : i < n) (H : ∀ r : Int32, (0 ≤ r ↔ pv_n p m ≤ sv_n t n m i) → (1 ≤ r ↔ pv_n p m < sv_n t n m i) → post r) :
    ∀ N k, m - k < N → k ≤ m → (∀ q, q < k → sc_l t n i q = p q + 1) → wX_compareSuffix_2 post (nI i) (nI n) (nI m) fd cp cq (ar_f t) (ar_f p) bo jo be sk su sh ma st so ra nr N (nI k) := by
  intro N
  induction N with
  | zero => intro k z; exact absurd z (Nat.not_lt_zero _)
  | succ N ih =>
    intro k hN hkm he
    obtain ⟨hn, hm, ht, hp⟩ := id hk
    rw [wX_compareSuffix_2]
    dsimp only
    rw [nI_add]
    refine pk_le m k (fun z => ?_) (fun z => ?_)
    · have : k = m := by omega
      subst this
      have e : sv_n t n k i = pv_n p k := dv_cong he
      refine H 0 ?_ ?_
      · rw [e]; exact ⟨fun _ => Nat.le_refl _, fun _ => by decide⟩
      · rw [e]; exact ⟨fun g => absurd g (by decide), fun g => absurd g (Nat.lt_irrefl _)⟩
    · have l1 := hp k
      have key : ∀ a, a = sc_l t n i k → wX_compareSuffix_32 post (wX_compareSuffix_2 post (nI i) (nI n) (nI m) fd cp cq (ar_f t) (ar_f p) bo jo be sk su sh ma st so ra nr N) (nI i) (nI k) (mi_p a) (nI n) (nI m) fd cp cq (ar_f t) (ar_f p) bo jo be sk su sh ma st so ra nr := by
        intro a ha
        have l2 : a < 5 := by rw [ha]; exact sc_5 ht n i k
        unfold wX_compareSuffix_32
        rw [ar_at (by omega), ← mi_s (p k), mi_eq (by omega) (by omega)]
        refine ⟨vp_in_nI (by omega) (by omega), fun g => ?_, fun g => ⟨vp_in_nI (by omega) (by omega), ?_⟩⟩
        · rw [nI_1]
          refine nm_e (ih (k + 1) (by omega) (by omega) (fun q hq => ?_))
          by_cases e : q = k
          · subst e; rw [← ha, g]
          · exact he q (by omega)
        · have ti : (mi_p a - mi_p (p k + 1)).toInt = (a : Int) - (p k + 1) := by
            rw [Int32.toInt_sub, mi_t (by omega), mi_t (by omega)]
            rw [Int.bmod_eq_of_le (by omega) (by omega)]
            omega
          have t0 : (0 : Int32).toInt = 0 := by decide
          have t1 : (1 : Int32).toInt = 1 := by decide
          rcases Nat.lt_or_ge a (p k + 1) with c | c
          · have lt := pv_lt ht z he (by rw [← ha]; exact c)
            refine H _ ?_ ?_
            · rw [Int32.le_iff_toInt_le, ti, t0]; omega
            · rw [Int32.le_iff_toInt_le, ti, t1]; omega
          · have gt := pv_gt hp z he (by rw [← ha]; omega)
            refine H _ ?_ ?_
            · rw [Int32.le_iff_toInt_le, ti, t0]; omega
            · rw [Int32.le_iff_toInt_le, ti, t1]; omega
      refine pk_le n (i + k) (fun g => ?_) (fun g => ⟨vp_in_nI (by omega) (by omega), ?_⟩)
      · have := key 0 (by unfold sc_l; rw [if_neg (by omega)])
        rw [mi_0] at this
        exact this
      · have := key (t (i + k) + 1) (by unfold sc_l; rw [if_pos g])
        rw [mi_s] at this
        rw [ar_at (by omega)]
        exact this
theorem e8_cmp {post : Int32 → Prop} {i : Nat} (hk : ok_s n m t p) (hm1 : 1 ≤ m) (hi : i < n) (H : ∀ r : Int32, (0 ≤ r ↔ pv_n p m ≤ sv_n t n m i) → (1 ≤ r ↔ pv_n p m < sv_n t n m i) → post r) : wpX_compareSuffix post ((nI n), (nI m), fd, cp, cq, (ar_f t), (ar_f p), bo, jo, be, sk, su, sh, ma, st, so, ra, nr) (nI i) :=
  ⟨m + 1, e8_cmp2 hk hm1 hi H (m + 1) 0 (by omega) (by omega) (fun q hq => absurd hq (Nat.not_lt_zero q))⟩
/-- countBefore: Q is what holds from the border on -/
theorem e8_10 {post : Int32 → Prop} {x : Int32} {s : Nat → Nat} {Q : Nat → Prop} (hn : n ≤ 60) (hso : as_N n so s) (hmon : ∀ a b, a ≤ b → b < n → Q a → Q b)
    (hc : ∀ k, k < n → ∀ post' : Int32 → Prop, (∀ r : Int32, (x ≤ r ↔ Q k) → post' r) → wpX_compareSuffix post' ((nI n), (nI m), fd, cp, cq, (ar_f t), (ar_f p), bo, jo, be, sk, su, sh, ma, st, so, ra, nr) (nI (s k)))
    (H : ∀ L, L ≤ n → (∀ k, k < L → ¬ Q k) → (∀ k, L ≤ k → k < n → Q k) → post (nI L)) :
    ∀ N lo hi rd e, 8 - rd < N → e = 2 ^ rd → (hi - lo) * e < 128 → rd ≤ 8 → lo ≤ hi → hi ≤ n → (∀ k, k < lo → ¬ Q k) → (∀ k, hi ≤ k → k < n → Q k) → wX_countBefore_10 post x (nI n) (nI m) fd cp cq (ar_f t) (ar_f p) bo jo be sk su sh ma st so ra nr N (nI lo) (nI hi) (nI rd) := by
  intro N
  induction N with
  | zero => intro lo hi rd e z; exact absurd z (Nat.not_lt_zero _)
  | succ N ih =>
    intro lo hi rd e hN he hd hrd hlh hhn hlo hhi
    have e1 : 1 ≤ e := by rw [he]; exact Nat.two_pow_pos rd
    rw [wX_countBefore_10]
    dsimp only
    refine pk_le 8 rd (fun z => ?_) (fun z => pk_le hi lo (fun g => ?_) (fun g => ⟨by decide, ?_⟩))
    · have : rd = 8 := by omega
      subst this
      have e2 : e = 256 := he
      subst e2
      have : hi = lo := by omega
      subst this
      exact H hi hhn hlo hhi
    · have : hi = lo := by omega
      subst this
      exact H hi hhn hlo hhi
    · have em : nI (lo + hi) / 2 = nI ((lo + hi) / 2) := pk_div (d := 2) (by omega) (by decide) (by decide)
      have e2 : e * 2 = 2 ^ (rd + 1) := by rw [he, Nat.pow_succ]
      have m1 : lo ≤ (lo + hi) / 2 := by omega
      have m2 : (lo + hi) / 2 < hi := by omega
      have d1 : ((lo + hi) / 2 - lo) * (e * 2) ≤ (hi - lo) * e := by
        rw [Nat.mul_comm e 2, ← Nat.mul_assoc]
        exact Nat.mul_le_mul_right e (by omega)
      have d2 : (hi - ((lo + hi) / 2 + 1)) * (e * 2) ≤ (hi - lo) * e := by
        rw [Nat.mul_comm e 2, ← Nat.mul_assoc]
        exact Nat.mul_le_mul_right e (by omega)
      rw [nI_add, em]
      generalize (lo + hi) / 2 = mid at m1 m2 d1 d2 ⊢
      refine nm_e ⟨vp_in_nI (by omega) (by omega), ?_⟩
      rw [nI_clamp (by omega), hso mid (by omega)]
      refine hc mid (by omega) _ (fun r hr => ?_)
      rw [hr, nI_1, nI_1]
      refine ⟨fun q => nm_e (ih lo mid (rd + 1) (e * 2) (by omega) e2 (by omega) (by omega) m1 (by omega) hlo (fun k k1 k2 => hmon mid k k1 k2 q)), fun q => nm_e (nm_e (ih (mid + 1) hi (rd + 1) (e * 2) (by omega) e2 (by omega) (by omega) (by omega) hhn (fun k k1 k2 => ?_) hhi))⟩
      rcases Nat.lt_or_ge k lo with y | y
      · exact hlo k y k2
      · exact q (hmon k mid (by omega) (by omega) k2)
theorem e8_cnt {post : Int32 → Prop} {x : Int32} {s : Nat → Nat} {Q : Nat → Prop} (hn : n ≤ 60) (hso : as_N n so s) (hmon : ∀ a b, a ≤ b → b < n → Q a → Q b)
    (hc : ∀ k, k < n → ∀ post' : Int32 → Prop, (∀ r : Int32, (x ≤ r ↔ Q k) → post' r) → wpX_compareSuffix post' ((nI n), (nI m), fd, cp, cq, (ar_f t), (ar_f p), bo, jo, be, sk, su, sh, ma, st, so, ra, nr) (nI (s k)))
    (H : ∀ L, L ≤ n → (∀ k, k < L → ¬ Q k) → (∀ k, L ≤ k → k < n → Q k) → post (nI L)) : wpX_countBefore post ((nI n), (nI m), fd, cp, cq, (ar_f t), (ar_f p), bo, jo, be, sk, su, sh, ma, st, so, ra, nr) x :=
  ⟨9, e8_10 hn hso hmon hc H 9 0 n 0 1 (by omega) rfl (by omega) (by omega) (by omega) (Nat.le_refl n) (fun k hk => absurd hk (Nat.not_lt_zero k)) (fun k h1 h2 => by omega)⟩
theorem e8_18 {s : Nat → Nat} {a b : Nat} (hn : n ≤ 60) (hb : b ≤ n) (hso : as_N n so s) (hP : so_P n s) (H : ∀ fd', (∀ j, j < 64 → (fb_t fd' j = true ↔ ∃ q, a ≤ q ∧ q < b ∧ s q = j)) → post ((nI n), (nI m), fd', cp, cq, (ar_f t), (ar_f p), bo, jo, be, sk, su, sh, ma, st, so, ra, nr)) :
    ∀ N k fd, n + 1 - k < N → k ≤ n → a ≤ k → (∀ j, j < 64 → (fb_t fd j = true ↔ ∃ q, a ≤ q ∧ q < k ∧ s q = j)) → (k ≤ b ∨ k = a) → wX_searchInSorted_18 post (nI b) N (nI k) (nI n) (nI m) fd cp cq (ar_f t) (ar_f p) bo jo be sk su sh ma st so ra nr := by
  intro N
  induction N with
  | zero => intro k fd z; exact absurd z (Nat.not_lt_zero _)
  | succ N ih =>
    intro k fd hN hk hak hfd hkb
    rw [wX_searchInSorted_18]
    dsimp only
    refine pk_le b k (fun z => ?_) (fun z => ⟨vp_in_nI (by omega) (by omega), ?_⟩)
    · refine H fd (fun j hj => ?_)
      rw [hfd j hj]
      constructor
      · rintro ⟨q, q1, q2, q3⟩; exact ⟨q, q1, by omega, q3⟩
      · rintro ⟨q, q1, q2, q3⟩; exact ⟨q, q1, by omega, q3⟩
    · have b1 := hP.1 k (by omega)
      rw [nI_clamp (by omega), hso k (by omega), nI_1]
      refine mk_X (nm_e (ih (k + 1) _ (by omega) (by omega) (by omega) (fun j hj => ?_) (by omega)))
      rw [fb_or, fb_s (by omega), Bool.or_eq_true, hfd j hj, decide_eq_true_eq]
      constructor
      · rintro (⟨q, q1, q2, q3⟩ | e)
        · exact ⟨q, q1, by omega, q3⟩
        · exact ⟨k, hak, by omega, e⟩
      · rintro ⟨q, q1, q2, q3⟩
        by_cases e : q = k
        · subst e; exact Or.inr q3
        · exact Or.inl ⟨q, q1, by omega, q3⟩
theorem e8_end (hk : ok_s n m t p) (hm1 : 1 ≤ m) (hmn : m ≤ n) (hf : fd = 0) (H : eg_P post n m t p (oc_A t p n m)) : wpX_searchInSorted post ((nI n), (nI m), fd, cp, cq, (ar_f t), (ar_f p), bo, jo, be, sk, su, sh, ma, st, so, ra, nr) := by
  obtain ⟨hn, hm, ht, hp⟩ := id hk
  subst hf
  unfold wpX_searchInSorted
  refine e8_sort hn (by omega) ht (fun so' ra' nr' s h a1 a2 a3 a4 => ?_)
  have mono : ∀ a b, a ≤ b → b < n → sv_n t n m (s a) ≤ sv_n t n m (s b) := by
    intro a b hab hb
    have := a4 a b hab hb
    obtain ⟨g, rfl⟩ : ∃ g, h = m + g := ⟨h - m, by omega⟩
    exact sv_le ht this
  dsimp only
  refine e8_cnt (Q := fun k => pv_n p m ≤ sv_n t n m (s k)) hn a2 (fun a b hab hb hQ => ?_) (fun k hk' post' hpost => e8_cmp hk hm1 (a3.1 k hk') (fun r r0 r1 => hpost r r0)) (fun L1 c1 c2 c3 => ?_)
  · have := mono a b hab hb
    have hQ : pv_n p m ≤ sv_n t n m (s a) := hQ
    show pv_n p m ≤ sv_n t n m (s b)
    omega
  refine e8_cnt (Q := fun k => pv_n p m < sv_n t n m (s k)) hn a2 (fun a b hab hb hQ => ?_) (fun k hk' post' hpost => e8_cmp hk hm1 (a3.1 k hk') (fun r r0 r1 => hpost r r1)) (fun L2 d1 d2 d3 => ⟨n + 2, ?_⟩)
  · have := mono a b hab hb
    have hQ : pv_n p m < sv_n t n m (s a) := hQ
    show pv_n p m < sv_n t n m (s b)
    omega
  refine e8_18 (a := L1) hn d1 a2 a3 (fun fd' hfd => H _ _ _ _ _ _ _ _ _ _ _ _ _ _ (fun j hj => ?_)) (n + 2) L1 0 (by omega) c1 (Nat.le_refl _) (fun j hj => ?_) (Or.inr rfl)
  · rw [hfd j hj]
    constructor
    · rintro ⟨q, q1, q2, q3⟩
      have x1 : pv_n p m ≤ sv_n t n m (s q) := c3 q q1 (by omega)
      have x2 : ¬ pv_n p m < sv_n t n m (s q) := d2 q q2
      rw [← q3]
      exact (pv_oc ht hp hm1).mp (by omega)
    · intro ho
      have o1 := ho.1
      obtain ⟨q, q1, q2⟩ := a3.2 j (by omega)
      have e : sv_n t n m (s q) = pv_n p m := by rw [q2]; exact (pv_oc ht hp hm1).mpr ho
      refine ⟨q, ?_, ?_, q2⟩
      · rcases Nat.lt_or_ge q L1 with z | z
        · have : ¬ pv_n p m ≤ sv_n t n m (s q) := c2 q z
          omega
        · exact z
      · rcases Nat.lt_or_ge q L2 with z | z
        · exact z
        · have : pv_n p m < sv_n t n m (s q) := d3 q z q1
          omega
  · rw [fb_0]
    constructor
    · intro z; cases z
    · rintro ⟨q, q1, q2, q3⟩; omega
end
end
section
/-! search, isFound; the reference's wrong -/
section
variable {post : SX → Prop} {n m : Nat} {t p : Nat → Nat} {fd : Int64} {cp cq : Int32} {bo jo be sk su sh ma st so ra nr : Nat → Int32}
theorem sr_14 (hn : n ≤ 60) (H : ∀ fd', oc_A t p n 0 fd' → post ((nI n), (nI 0), fd', cp, cq, (ar_f t), (ar_f p), bo, jo, be, sk, su, sh, ma, st, so, ra, nr)) :
    ∀ N i fd, n + 1 - i < N → i ≤ n + 1 → oc_B t p n 0 i fd → wX_search_14 post N (nI i) (nI n) (nI 0) fd cp cq (ar_f t) (ar_f p) bo jo be sk su sh ma st so ra nr := by
  intro N
  induction N with
  | zero => intro i fd z; exact absurd z (Nat.not_lt_zero _)
  | succ N ih =>
    intro i fd hN hi hB
    rw [wX_search_14]
    dsimp only
    refine pk_lt n i (fun h => H fd (oc_end hB (by omega))) (fun h => mk_X ?_)
    rw [nI_1]
    exact nm_e (ih (i + 1) _ (by omega) (by omega) (oc_set hB (by omega) ⟨by omega, fun k hk => absurd hk (Nat.not_lt_zero k)⟩))
theorem sr_all {e : Nat} (hk : ok_s n m t p) (he : e < 10) (H : eg_P post n m t p (oc_A t p n m)) : wpX_search post ((nI n), (nI m), fd, cp, cq, (ar_f t), (ar_f p), bo, jo, be, sk, su, sh, ma, st, so, ra, nr) (nI e) := by
  have hn := hk.1
  have hm := hk.2.1
  unfold wpX_search
  dsimp only
  rw [c0_eq (by omega)]
  refine ⟨fun h => ⟨n + 2, ?_⟩, fun h => pk_le m n (fun g => br_f (nI_pos (by omega)) ?_) (fun g => H _ _ _ _ _ _ _ _ _ _ _ _ _ _ (oc_end oc_B0 (by omega)))⟩
  · subst h
    exact sr_14 hn (fun fd' h => H _ _ _ _ _ _ _ _ _ _ _ _ _ _ h) (n + 2) 0 0 (by omega) (by omega) oc_B0
  · have hm1 : 1 ≤ m := by omega
    refine pk_lt 8 e (fun h => e9_end hk hm1 rfl H) (fun h => ?_)
    refine pk_eq e 0 (fun z => e0_end hk hm1 rfl H) (fun z0 => ?_)
    refine pk_eq e 1 (fun z => e1_end hk hm1 rfl H) (fun z1 => ?_)
    refine pk_eq e 2 (fun z => e2_end hk hm1 rfl H) (fun z2 => ?_)
    refine pk_eq e 3 (fun z => e3_end hk hm1 rfl H) (fun z3 => ?_)
    refine pk_eq e 4 (fun z => e4_end hk hm1 rfl H) (fun z4 => ?_)
    refine pk_eq e 5 (fun z => e5_end hk hm1 g rfl H) (fun z5 => ?_)
    refine pk_eq e 6 (fun z => e6_end hk hm1 rfl H) (fun z6 => ?_)
    refine pk_eq e 7 (fun z => e7_end hk hm1 rfl H) (fun z7 => ?_)
    exact pk_eq e 8 (fun z => e8_end hk hm1 g rfl H) (fun z8 => trivial)
theorem sr_is {post : Int32 → Prop} {i : Nat} (hn : n ≤ 60) (hi : i ≤ n) (hA : oc_A t p n m fd) (h1 : oc_c t p n m i → post 1) (h0 : ¬ oc_c t p n m i → post 0) : wpX_isFound post ((nI n), (nI m), fd, cp, cq, (ar_f t), (ar_f p), bo, jo, be, sk, su, sh, ma, st, so, ra, nr) (nI i) := by
  unfold wpX_isFound
  dsimp only
  rw [fb_is (by omega)]
  have a := hA i (by omega)
  refine ⟨fun z => h0 (fun ho => ?_), fun z => h1 (a.mp (ts_nf z))⟩
  rw [a.mpr ho] at z
  cases z
theorem is_y {post : Int32 → Prop} {e : Nat} (he : e < 10) (h : post 1) : wpX_isEngine post (nI e) :=
  br_f (nI_pos (by omega)) (br_f (nI_ge (b := 10) he (by decide)) h)
theorem is_n {post : Int32 → Prop} {v : Int32} (hv : v < 0 ∨ 10 ≤ v) (h : post 0) : wpX_isEngine post v := br_c (fun _ => h) (fun z => br_t (hv.resolve_left z) h)
theorem il_y {post : Int32 → Prop} {e : Nat} (he : e < 4) (h : post 1) : wpX_isLetter post (nI e) :=
  br_f (nI_pos (by omega)) (br_f (nI_ge (b := 4) he (by decide)) h)
theorem il_n {post : Int32 → Prop} {v : Int32} (hv : v < 0 ∨ 4 ≤ v) (h : post 0) : wpX_isLetter post v := br_c (fun _ => h) (fun z => br_t (hv.resolve_left z) h)
theorem io_lt {a b c : Int32} (hab : a.toInt < b.toInt) (h : b ≤ c) : a < c := by
  rw [Int32.lt_iff_toInt_lt]
  rw [Int32.le_iff_toInt_le] at h
  omega
theorem ys_y {post : Int32 → Prop} {e : Nat} (he : e < 10) (h : post 1) : wpY_engine post ((nI n), (nI m), (ar_f t), (ar_f p)) (nI e) :=
  br_f (nI_pos (by omega)) (br_f (nI_nlt (b := e) (a := 9) (by omega) (by decide)) h)
theorem ys_n {post : Int32 → Prop} {v : Int32} (hv : v < 0 ∨ 10 ≤ v) (h : post 0) : wpY_engine post ((nI n), (nI m), (ar_f t), (ar_f p)) v := br_c (fun _ => h) (fun z => br_t (io_lt (by decide) (hv.resolve_left z)) h)
theorem yl_y {post : Int32 → Prop} {e : Nat} (he : e < 4) (h : post 1) : wpY_isLetter post ((nI n), (nI m), (ar_f t), (ar_f p)) (nI e) :=
  br_f (nI_pos (by omega)) (br_f (nI_nlt (b := e) (a := 3) (by omega) (by decide)) h)
theorem yl_n {post : Int32 → Prop} {v : Int32} (hv : v < 0 ∨ 4 ≤ v) (h : post 0) : wpY_isLetter post ((nI n), (nI m), (ar_f t), (ar_f p)) v := br_c (fun _ => h) (fun z => br_t (io_lt (by decide) (hv.resolve_left z)) h)
end
/-! how many letters are wrong -/
def wc_n (t p : Nat → Nat) (i : Nat) : Nat → Nat
  | 0 => 0
  | k + 1 => wc_n t p i k + (if t (i + k) = p k then 0 else 1)
theorem wc_le (t p : Nat → Nat) (i : Nat) : ∀ k, wc_n t p i k ≤ k := by
  intro k
  induction k with
  | zero => exact Nat.le_refl 0
  | succ k ih =>
    show wc_n t p i k + (if t (i + k) = p k then 0 else 1) ≤ k + 1
    split <;> omega
theorem wc_0 {t p : Nat → Nat} {i : Nat} : ∀ k, wc_n t p i k = 0 ↔ ∀ q, q < k → t (i + q) = p q := by
  intro k
  induction k with
  | zero => exact ⟨fun _ q hq => absurd hq (Nat.not_lt_zero q), fun _ => rfl⟩
  | succ k ih =>
    show wc_n t p i k + (if t (i + k) = p k then 0 else 1) = 0 ↔ _
    by_cases e : t (i + k) = p k
    · rw [if_pos e, Nat.add_zero, ih]
      constructor
      · intro h q hq
        by_cases g : q = k
        · subst g; exact e
        · exact h q (by omega)
      · exact fun h q hq => h q (by omega)
    · rw [if_neg e]
      exact ⟨fun h => by omega, fun h => absurd (h k (by omega)) e⟩
def wr_n (t p : Nat → Nat) (n m i : Nat) : Nat := if i + m ≤ n then wc_n t p i m else 100
theorem wr_oc {t p : Nat → Nat} {n m i : Nat} : wr_n t p n m i = 0 ↔ oc_c t p n m i := by
  unfold wr_n
  by_cases h : i + m ≤ n
  · rw [if_pos h, wc_0]
    exact ⟨fun g => ⟨h, g⟩, fun g => g.2⟩
  · rw [if_neg h]
    exact ⟨fun g => by omega, fun g => absurd g.1 h⟩
theorem wr_le {t p : Nat → Nat} {n m i : Nat} (hm : m ≤ 12) : wr_n t p n m i ≤ 100 := by
  unfold wr_n
  have := wc_le t p i m
  split <;> omega
section
variable {n m : Nat} {t p : Nat → Nat}
theorem yw_24 {post : Int32 → Prop} {i : Nat} (hk : ok_s n m t p) (hi : i + m ≤ n) (h : post (nI (wc_n t p i m))) :
    ∀ N k, m - k < N → k ≤ m → wY_wrong_24 post (nI i) (nI n) (nI m) (ar_f t) (ar_f p) N (nI (wc_n t p i k)) (nI k) := by
  intro N
  induction N with
  | zero => intro k z; exact absurd z (Nat.not_lt_zero _)
  | succ N ih =>
    intro k hN hkm
    obtain ⟨hn, hm, ht, hp⟩ := id hk
    rw [wY_wrong_24]
    dsimp only
    rw [nI_add]
    refine pk_le m k (fun z => ?_) (fun z => ⟨vp_in_nI (by omega) (by omega), vp_in_nI (by omega) (by omega), ?_⟩)
    · have : k = m := by omega
      subst this
      exact h
    · have step := ih (k + 1) (by omega) (by omega)
      have e : wc_n t p i (k + 1) = wc_n t p i k + (if t (i + k) = p k then 0 else 1) := rfl
      rw [e] at step
      rw [ar_at (by omega), ar_at (by omega), l4_eq ht hp, nI_1, nI_1]
      refine ⟨fun g => nm_e ?_, fun g => nm_e (nm_e ?_)⟩
      · rw [if_pos g, Nat.add_zero] at step
        exact step
      · rw [if_neg g] at step
        exact step
theorem yw_X {post : Int32 → Prop} {i : Nat} (hk : ok_s n m t p) (hi : i ≤ 100) (h : post (nI (wr_n t p n m i))) : wpY_wrong post ((nI n), (nI m), (ar_f t), (ar_f p)) (nI i) := by
  have hn := hk.1
  have hm := hk.2.1
  unfold wpY_wrong
  dsimp only
  rw [nI_add]
  unfold wr_n at h
  refine br_f (nI_pos (by omega)) (pk_le (i + m) n (fun z => ⟨m + 1, ?_⟩) (fun z => ?_))
  · rw [if_pos z] at h
    exact yw_24 hk z h (m + 1) 0 (by omega) (by omega)
  · rw [if_neg (by omega)] at h
    exact h
end
end
section
/-! the relation; what changes text and pattern -/
/-- both hold the same text and pattern of letters; the tables of the component are of no account -/
def i_Rel (k : Nat) (u : SX) (v : SY) : Prop :=
  ∃ n m t p, ok_s n m t p ∧ u.1 = nI n ∧ u.2.1 = nI m ∧ u.2.2.2.2.2.1 = ar_f t ∧ u.2.2.2.2.2.2.1 = ar_f p ∧ v = ((nI n), (nI m), (ar_f t), (ar_f p))
theorem re_in {k n m : Nat} {t p : Nat → Nat} {fd : Int64} {cp cq : Int32} {bo jo be sk su sh ma st so ra nr : Nat → Int32} (hk : ok_s n m t p) : i_Rel k ((nI n), (nI m), fd, cp, cq, (ar_f t), (ar_f p), bo, jo, be, sk, su, sh, ma, st, so, ra, nr) ((nI n), (nI m), (ar_f t), (ar_f p)) := ⟨n, m, t, p, hk, rfl, rfl, rfl, rfl, rfl⟩
theorem re_el {P : SX → SY → Prop} {k : Nat} {u : SX} {v : SY} (I : i_Rel k u v) (h : ∀ (n m : Nat) (t p : Nat → Nat) (fd : Int64) (cp cq : Int32) (bo jo be sk su sh ma st so ra nr : Nat → Int32), ok_s n m t p → P ((nI n), (nI m), fd, cp, cq, (ar_f t), (ar_f p), bo, jo, be, sk, su, sh, ma, st, so, ra, nr) ((nI n), (nI m), (ar_f t), (ar_f p))) : P u v := by
  obtain ⟨f_n, f_m, fd, cp, cq, a_t, a_p, bo, jo, be, sk, su, sh, ma, st, so, ra, nr⟩ := u
  obtain ⟨n, m, t, p, hk, e1, e2, e3, e4, e5⟩ := I
  dsimp only at e1 e2 e3 e4
  subst e1 e2 e3 e4 e5
  exact h n m t p fd cp cq bo jo be sk su sh ma st so ra nr hk
theorem i_up {k : Nat} {u : SX} {v : SY} (h : i_Rel k u v) : i_Rel (k + 3) u v := h
theorem ok_0 : ok_s 0 0 (fun _ => 0) (fun _ => 0) := ⟨by omega, by omega, fun _ => Nat.zero_lt_succ 3, fun _ => Nat.zero_lt_succ 3⟩
theorem i_vc0 : wpX_init (fun u => wpY_init (fun v => i_Rel 0 u v)) := re_in (k := 0) (n := 0) (m := 0) (t := fun _ => 0) (p := fun _ => 0) ok_0
/-- k letters l from n on -/
def ww_t (t : Nat → Nat) (n l : Nat) : Nat → (Nat → Nat)
  | 0 => t
  | k + 1 => un_f (ww_t t n l k) (n + k) l
theorem ww_4 {t : Nat → Nat} {n l : Nat} (ht : l4_f t) (hl : l < 4) : ∀ k, l4_f (ww_t t n l k) := by
  intro k
  induction k with
  | zero => exact ht
  | succ k ih => exact un_4 ih hl
/-- k letters from n on, as those b places before -/
def wa_t (t : Nat → Nat) (n b : Nat) : Nat → (Nat → Nat)
  | 0 => t
  | k + 1 => un_f (wa_t t n b k) (n + k) (wa_t t n b k (n + k - b))
theorem wa_4 {t : Nat → Nat} {n b : Nat} (ht : l4_f t) : ∀ k, l4_f (wa_t t n b k) := by
  intro k
  induction k with
  | zero => exact ht
  | succ k ih => exact un_4 ih (ih _)
/-- the pattern with k letters of the text from i on -/
def wp_p (t p : Nat → Nat) (i : Nat) : Nat → (Nat → Nat)
  | 0 => p
  | k + 1 => un_f (wp_p t p i k) k (t (i + k))
theorem wp_4 {t p : Nat → Nat} {i : Nat} (ht : l4_f t) (hp : l4_f p) : ∀ k, l4_f (wp_p t p i k) := by
  intro k
  induction k with
  | zero => exact hp
  | succ k ih => exact un_4 ih (ht _)
section
variable {n m : Nat} {t p : Nat → Nat} {fd : Int64} {cp cq : Int32} {bo jo be sk su sh ma st so ra nr : Nat → Int32}
theorem ed_w {post : Int32 → SX → Prop} {l c : Nat} (hl : l < 4) (hc : n + c ≤ 60) (H : post (nI (n + c)) ((nI (n + c)), (nI m), fd, cp, cq, (ar_f (ww_t t n l c)), (ar_f p), bo, jo, be, sk, su, sh, ma, st, so, ra, nr)) :
    ∀ N k, c - k < N → k ≤ c → wX_write_36 post (nI l) (nI c) (nI m) fd cp cq N (nI k) (nI (n + k)) (ar_f (ww_t t n l k)) (ar_f p) bo jo be sk su sh ma st so ra nr := by
  intro N
  induction N with
  | zero => intro k z; exact absurd z (Nat.not_lt_zero _)
  | succ N ih =>
    intro k hN hk
    rw [wX_write_36]
    dsimp only
    refine pk_le c k (fun z => ?_) (fun z => ⟨vp_in_nI (by omega) (by omega), ?_⟩)
    · have : k = c := by omega
      subst this
      exact H
    · rw [bn_w (by omega), nI_clamp (by omega), un_a, nI_1, nI_1]
      exact nm_e (nm_e (nm_e (ih (k + 1) (by omega) (by omega))))
theorem ed_wy {post : Int32 → SY → Prop} {l c : Nat} (hl : l < 4) (hc : n + c ≤ 60) (H : post (nI (n + c)) ((nI (n + c)), (nI m), (ar_f (ww_t t n l c)), (ar_f p))) :
    ∀ N k, c - k < N → k ≤ c → wY_write_34 post (nI l) (nI c) (nI n) (nI m) N (nI k) (ar_f (ww_t t n l k)) (ar_f p) := by
  intro N
  induction N with
  | zero => intro k z; exact absurd z (Nat.not_lt_zero _)
  | succ N ih =>
    intro k hN hk
    rw [wY_write_34]
    dsimp only
    rw [nI_add, nI_add]
    refine pk_le c k (fun z => ?_) (fun z => ⟨vp_in_nI (by omega) (by omega), ?_⟩)
    · have : k = c := by omega
      subst this
      exact nm_e H
    · rw [nI_clamp (by omega), un_a, nI_1]
      exact nm_e (nm_e (ih (k + 1) (by omega) (by omega)))
theorem ed_a {post : Int32 → SX → Prop} {b c : Nat} (ht : l4_f t) (hb1 : 1 ≤ b) (hb : b ≤ n) (hc : n + c ≤ 60) (H : post (nI (n + c)) ((nI (n + c)), (nI m), fd, cp, cq, (ar_f (wa_t t n b c)), (ar_f p), bo, jo, be, sk, su, sh, ma, st, so, ra, nr)) :
    ∀ N k, c - k < N → k ≤ c → wX_again_42 post (nI b) (nI c) (nI m) fd cp cq N (nI k) (nI (n + k)) (ar_f (wa_t t n b k)) (ar_f p) bo jo be sk su sh ma st so ra nr := by
  intro N
  induction N with
  | zero => intro k z; exact absurd z (Nat.not_lt_zero _)
  | succ N ih =>
    intro k hN hk
    rw [wX_again_42]
    dsimp only
    refine pk_le c k (fun z => ?_) (fun z => ?_)
    · have : k = c := by omega
      subst this
      exact H
    · rw [pk_sub (by omega), ar_at (by omega), l4_v (wa_4 ht k), nI_clamp (by omega), un_a, nI_1, nI_1]
      exact ⟨vp_in_nI (by omega) (by omega), vp_in_nI (by omega) (by omega), nm_e (nm_e (nm_e (ih (k + 1) (by omega) (by omega))))⟩
theorem ed_ay {post : Int32 → SY → Prop} {b c : Nat} (hb1 : 1 ≤ b) (hb : b ≤ n) (hc : n + c ≤ 60) (H : post (nI (n + c)) ((nI (n + c)), (nI m), (ar_f (wa_t t n b c)), (ar_f p))) :
    ∀ N k, c - k < N → k ≤ c → wY_again_39 post (nI b) (nI c) (nI m) N (nI k) (nI (n + k)) (ar_f (wa_t t n b k)) (ar_f p) := by
  intro N
  induction N with
  | zero => intro k z; exact absurd z (Nat.not_lt_zero _)
  | succ N ih =>
    intro k hN hk
    rw [wY_again_39]
    dsimp only
    refine pk_le c k (fun z => ?_) (fun z => ?_)
    · have : k = c := by omega
      subst this
      exact H
    · rw [pk_sub (by omega), ar_at (by omega), nI_clamp (by omega), un_a, nI_1, nI_1]
      exact ⟨vp_in_nI (by omega) (by omega), vp_in_nI (by omega) (by omega), nm_e (nm_e (nm_e (ih (k + 1) (by omega) (by omega))))⟩
theorem ed_c {post : Int32 → SX → Prop} {i c : Nat} (ht : l4_f t) (hn : n ≤ 60) (hc : c ≤ 12) (hi : i + c ≤ n) (H : post 1 ((nI n), (nI c), fd, cp, cq, (ar_f t), (ar_f (wp_p t p i c)), bo, jo, be, sk, su, sh, ma, st, so, ra, nr)) :
    ∀ N k, c - k < N → k ≤ c → wX_copy_28 post (nI i) (nI c) (nI n) (nI m) fd cp cq N (nI k) (ar_f t) (ar_f (wp_p t p i k)) bo jo be sk su sh ma st so ra nr := by
  intro N
  induction N with
  | zero => intro k z; exact absurd z (Nat.not_lt_zero _)
  | succ N ih =>
    intro k hN hk
    rw [wX_copy_28]
    dsimp only
    refine pk_le c k (fun z => ?_) (fun z => ?_)
    · have : k = c := by omega
      subst this
      exact H
    · rw [nI_add, ar_at (by omega), l4_v ht, nI_clamp (by omega), un_a, nI_1]
      exact ⟨vp_in_nI (by omega) (by omega), vp_in_nI (by omega) (by omega), nm_e (nm_e (ih (k + 1) (by omega) (by omega)))⟩
theorem ed_cy {post : Int32 → SY → Prop} {i c : Nat} (hn : n ≤ 60) (hc : c ≤ 12) (hi : i + c ≤ n) (H : post 1 ((nI n), (nI c), (ar_f t), (ar_f (wp_p t p i c)))) :
    ∀ N k, c - k < N → k ≤ c → wY_copy_28 post (nI i) (nI c) (nI n) (nI m) N (nI k) (ar_f t) (ar_f (wp_p t p i k)) := by
  intro N
  induction N with
  | zero => intro k z; exact absurd z (Nat.not_lt_zero _)
  | succ N ih =>
    intro k hN hk
    rw [wY_copy_28]
    dsimp only
    refine pk_le c k (fun z => ?_) (fun z => ?_)
    · have : k = c := by omega
      subst this
      exact H
    · rw [nI_add, ar_at (by omega), nI_clamp (by omega), un_a, nI_1]
      exact ⟨vp_in_nI (by omega) (by omega), vp_in_nI (by omega) (by omega), nm_e (nm_e (ih (k + 1) (by omega) (by omega)))⟩
theorem my_y {post : Int32 → Prop} {c : Nat} (h1 : 1 ≤ c) (hc : c ≤ 60) (h : post 1) : wpY_many post ((nI n), (nI m), (ar_f t), (ar_f p)) (nI c) :=
  br_f (nI_nlt (b := 1) h1 (by omega)) (br_f (nI_nlt (b := c) (a := 60) hc (by decide)) h)
theorem my_n1 {post : Int32 → Prop} {v : Int32} (h1 : v < 1) (h : post 0) : wpY_many post ((nI n), (nI m), (ar_f t), (ar_f p)) v := br_t h1 h
theorem my_n2 {post : Int32 → Prop} {v : Int32} (h1 : ¬ v < 1) (h2 : ¬ v ≤ 60) (h : post 0) : wpY_many post ((nI n), (nI m), (ar_f t), (ar_f p)) v := br_f h1 (br_t (Int32.not_le.mp h2) h)
end
theorem ix_1 {v : Int32} (h : ¬ v < 1) (h2 : v ≤ 60) : ∃ c, 1 ≤ c ∧ c ≤ 60 ∧ v = nI c := by
  have h0 : ¬ v < 0 := by
    intro z
    apply h
    rw [Int32.lt_iff_toInt_lt] at z ⊢
    have e0 : (0 : Int32).toInt = 0 := by decide
    have e1 : (1 : Int32).toInt = 1 := by decide
    omega
  obtain ⟨c, hc, rfl⟩ := nI_of h0
  rw [c1_lt hc] at h
  rw [c60_le hc] at h2
  exact ⟨c, by omega, h2, rfl⟩
theorem i_vc_write {k : Nat} {u : SX} {v : SY} (I : i_Rel k u v) (hk : k + 3 ≤ 1536) (v1 : Int32) (v2 : Int32) : wpX_write (fun r u' => wpY_write (fun r' v' => r' = r ∧ i_Rel (k + 3) u' v') v v1 v2) u v1 v2 := by
  refine re_el (P := fun u v => wpX_write (fun r u' => wpY_write (fun r' v' => r' = r ∧ i_Rel (k + 3) u' v') v v1 v2) u v1 v2) I ?_
  intro n m t p fd cp cq bo jo be sk su sh ma st so ra nr hh
  obtain ⟨hn, hm, ht, hp⟩ := id hh
  unfold wpX_write wpY_write
  dsimp only
  rcases pk_ix v1 (n := 4) (by decide) with h | h | ⟨l, hl, rfl⟩
  · exact il_n (Or.inl h) (br_t rfl (yl_n (Or.inl h) (br_t rfl ⟨rfl, re_in hh⟩)))
  · exact il_n (Or.inr h) (br_t rfl (yl_n (Or.inr h) (br_t rfl ⟨rfl, re_in hh⟩)))
  · refine il_y hl (br_f (by decide) ?_)
    by_cases g : v2 < 1
    · exact br_t g (yl_y hl (br_f (by decide) (my_n1 g (br_t rfl ⟨rfl, re_in hh⟩))))
    · by_cases g2 : v2 ≤ 60
      · obtain ⟨c, c1, c2, rfl⟩ := ix_1 g g2
        refine br_f g (br_t g2 ?_)
        rw [nI_add, c60_le (by omega)]
        refine ⟨fun z => ⟨c + 1, ?_⟩, fun z => yl_y hl (br_f (by decide) (my_y c1 c2 (br_f (by decide) (br_f z ⟨rfl, re_in hh⟩))))⟩
        refine ed_w hl z (yl_y hl (br_f (by decide) (my_y c1 c2 (br_f (by decide) (br_t z ⟨c + 1, ?_⟩))))) (c + 1) 0 (by omega) (by omega)
        exact ed_wy hl z ⟨rfl, re_in ⟨z, hm, ww_4 ht hl c, hp⟩⟩ (c + 1) 0 (by omega) (by omega)
      · exact br_f g (br_f g2 (yl_y hl (br_f (by decide) (my_n2 g g2 (br_t rfl ⟨rfl, re_in hh⟩)))))
end
section
theorem i_vc_again {k : Nat} {u : SX} {v : SY} (I : i_Rel k u v) (hk : k + 3 ≤ 1536) (v1 : Int32) (v2 : Int32) : wpX_again (fun r u' => wpY_again (fun r' v' => r' = r ∧ i_Rel (k + 3) u' v') v v1 v2) u v1 v2 := by
  refine re_el (P := fun u v => wpX_again (fun r u' => wpY_again (fun r' v' => r' = r ∧ i_Rel (k + 3) u' v') v v1 v2) u v1 v2) I ?_
  intro n m t p fd cp cq bo jo be sk su sh ma st so ra nr hh
  obtain ⟨hn, hm, ht, hp⟩ := id hh
  unfold wpX_again wpY_again
  dsimp only
  by_cases f1 : v1 < 1
  · exact br_t f1 (br_t f1 ⟨rfl, re_in hh⟩)
  by_cases f2 : nI n < v1
  · exact br_f f1 (br_t f2 (br_f f1 (br_t f2 ⟨rfl, re_in hh⟩)))
  refine br_f f1 (br_f f2 ?_)
  have f3 : v1 ≤ nI n := Int32.not_lt.mp f2
  have f4 : v1 ≤ 60 := Int32.le_trans f3 (nI_le (b := 60) hn (by decide))
  obtain ⟨b, b1, b2, rfl⟩ := ix_1 f1 f4
  rw [nI_leI (by omega) (by omega)] at f3
  by_cases g : v2 < 1
  · exact br_t g (br_f f1 (br_f f2 (my_n1 g (br_t rfl ⟨rfl, re_in hh⟩))))
  by_cases g2 : v2 ≤ 60
  · obtain ⟨c, c1, c2, rfl⟩ := ix_1 g g2
    refine br_f g (br_t g2 ?_)
    rw [nI_add, c60_le (by omega)]
    refine ⟨fun z => ⟨c + 1, ?_⟩, fun z => br_f f1 (br_f f2 (my_y c1 c2 (br_f (by decide) (br_f z ⟨rfl, re_in hh⟩))))⟩
    refine ed_a ht b1 f3 z (br_f f1 (br_f f2 (my_y c1 c2 (br_f (by decide) (br_t z ⟨c + 1, ?_⟩))))) (c + 1) 0 (by omega) (by omega)
    exact ed_ay b1 f3 z ⟨rfl, re_in ⟨z, hm, wa_4 ht c, hp⟩⟩ (c + 1) 0 (by omega) (by omega)
  · exact br_f g (br_f g2 (br_f f1 (br_f f2 (my_n2 g g2 (br_t rfl ⟨rfl, re_in hh⟩)))))
theorem i_vc_cut {k : Nat} {u : SX} {v : SY} (I : i_Rel k u v) (hk : k + 3 ≤ 1536) (v1 : Int32) : wpX_cut (fun r u' => wpY_cut (fun r' v' => r' = r ∧ i_Rel (k + 3) u' v') v v1) u v1 := by
  refine re_el (P := fun u v => wpX_cut (fun r u' => wpY_cut (fun r' v' => r' = r ∧ i_Rel (k + 3) u' v') v v1) u v1) I ?_
  intro n m t p fd cp cq bo jo be sk su sh ma st so ra nr hh
  obtain ⟨hn, hm, ht, hp⟩ := id hh
  unfold wpX_cut wpY_cut
  dsimp only
  by_cases f1 : v1 < 0
  · exact br_t f1 (br_t f1 ⟨rfl, re_in hh⟩)
  by_cases f2 : v1 ≤ 60
  · obtain ⟨a, ha, rfl⟩ := nI_of f1
    rw [c60_le ha] at f2
    have e : n < a → nI 0 = nI (n - a) := fun z => congrArg nI (by omega)
    refine br_f f1 (br_t ((c60_le ha).mpr f2) (pk_le a n (fun z => ?_) (fun z => ?_)))
    · rw [pk_sub z]
      refine nm_e (br_f f1 (br_t ((c60_le ha).mpr f2) (pk_le n a (fun y => ?_) (fun y => nm_e ⟨rfl, re_in ⟨by omega, hm, ht, hp⟩⟩))))
      have e2 : n - a = 0 := by omega
      rw [e2]
      exact ⟨rfl, re_in (n := 0) ⟨by omega, hm, ht, hp⟩⟩
    · refine br_f f1 (br_t ((c60_le ha).mpr f2) (pk_le n a (fun y => ⟨rfl, re_in (n := 0) ⟨by omega, hm, ht, hp⟩⟩) (fun y => by omega)))
  · exact br_f f1 (br_f f2 (br_f f1 (br_f f2 ⟨rfl, re_in hh⟩)))
theorem i_vc_change {k : Nat} {u : SX} {v : SY} (I : i_Rel k u v) (hk : k + 3 ≤ 1536) (v1 : Int32) (v2 : Int32) : wpX_change (fun r u' => wpY_change (fun r' v' => r' = r ∧ i_Rel (k + 3) u' v') v v1 v2) u v1 v2 := by
  refine re_el (P := fun u v => wpX_change (fun r u' => wpY_change (fun r' v' => r' = r ∧ i_Rel (k + 3) u' v') v v1 v2) u v1 v2) I ?_
  intro n m t p fd cp cq bo jo be sk su sh ma st so ra nr hh
  obtain ⟨hn, hm, ht, hp⟩ := id hh
  unfold wpX_change wpY_change
  dsimp only
  by_cases f1 : v1 < 0
  · exact br_t f1 (br_t f1 ⟨rfl, re_in hh⟩)
  by_cases f2 : nI n ≤ v1
  · exact br_f f1 (br_t f2 (br_f f1 (br_t f2 ⟨rfl, re_in hh⟩)))
  obtain ⟨i, hi, rfl⟩ := nI_of f1
  have f3 : i < n := by
    rw [nI_leI (by omega) hi] at f2
    omega
  refine br_f f1 (br_f f2 ?_)
  rcases pk_ix v2 (n := 4) (by decide) with h | h | ⟨l, hl, rfl⟩
  · exact il_n (Or.inl h) (br_t rfl (br_f f1 (br_f f2 (yl_n (Or.inl h) (br_t rfl ⟨rfl, re_in hh⟩)))))
  · exact il_n (Or.inr h) (br_t rfl (br_f f1 (br_f f2 (yl_n (Or.inr h) (br_t rfl ⟨rfl, re_in hh⟩)))))
  · refine il_y hl (br_f (by decide) ⟨vp_in_nI (by omega) (by omega), nm_e ⟨vp_in_nI (by omega) (by omega), ?_⟩⟩)
    rw [bn_w (by omega), nI_clamp (by omega), un_a]
    exact nm_e (br_f f1 (br_f f2 (yl_y hl (br_f (by decide) ⟨vp_in_nI (by omega) (by omega), nm_e ⟨vp_in_nI (by omega) (by omega), nm_e ⟨rfl, re_in ⟨hn, hm, un_4 ht hl, hp⟩⟩⟩⟩))))
theorem i_vc_extend {k : Nat} {u : SX} {v : SY} (I : i_Rel k u v) (hk : k + 3 ≤ 1536) (v1 : Int32) : wpX_extend (fun r u' => wpY_extend (fun r' v' => r' = r ∧ i_Rel (k + 3) u' v') v v1) u v1 := by
  refine re_el (P := fun u v => wpX_extend (fun r u' => wpY_extend (fun r' v' => r' = r ∧ i_Rel (k + 3) u' v') v v1) u v1) I ?_
  intro n m t p fd cp cq bo jo be sk su sh ma st so ra nr hh
  obtain ⟨hn, hm, ht, hp⟩ := id hh
  unfold wpX_extend wpY_extend
  dsimp only
  rcases pk_ix v1 (n := 4) (by decide) with h | h | ⟨l, hl, rfl⟩
  · exact il_n (Or.inl h) (br_t rfl (yl_n (Or.inl h) (br_t rfl ⟨rfl, re_in hh⟩)))
  · exact il_n (Or.inr h) (br_t rfl (yl_n (Or.inr h) (br_t rfl ⟨rfl, re_in hh⟩)))
  · refine il_y hl (br_f (by decide) ?_)
    rw [c12_lt (by omega), nI_clamp (by omega), bn_w (by omega), un_a, nI_1]
    refine ⟨fun z => ⟨vp_in_nI z (by omega), nm_e (nm_e (yl_y hl (br_f (by decide) (br_t z ⟨vp_in_nI z (by omega), nm_e (nm_e ⟨rfl, re_in ⟨hn, z, ht, un_4 hp hl⟩⟩)⟩))))⟩, fun z => yl_y hl (br_f (by decide) (br_f z ⟨rfl, re_in hh⟩))⟩
theorem i_vc_shorten {k : Nat} {u : SX} {v : SY} (I : i_Rel k u v) (hk : k + 3 ≤ 1536) : wpX_shorten (fun r u' => wpY_shorten (fun r' v' => r' = r ∧ i_Rel (k + 3) u' v') v) u := by
  refine re_el (P := fun u v => wpX_shorten (fun r u' => wpY_shorten (fun r' v' => r' = r ∧ i_Rel (k + 3) u' v') v) u) I ?_
  intro n m t p fd cp cq bo jo be sk su sh ma st so ra nr hh
  obtain ⟨hn, hm, ht, hp⟩ := id hh
  unfold wpX_shorten wpY_shorten
  dsimp only
  rw [c0_eq (by omega)]
  by_cases z : m = 0
  · exact br_t z (br_t z ⟨rfl, re_in hh⟩)
  · rw [s1_n (by omega)]
    exact br_f z (nm_e ⟨vp_in_nI (by omega) (by omega), br_f z (nm_e ⟨vp_in_nI (by omega) (by omega), rfl, re_in ⟨hn, by omega, ht, hp⟩⟩)⟩)
theorem i_vc_copy {k : Nat} {u : SX} {v : SY} (I : i_Rel k u v) (hk : k + 3 ≤ 1536) (v1 : Int32) (v2 : Int32) : wpX_copy (fun r u' => wpY_copy (fun r' v' => r' = r ∧ i_Rel (k + 3) u' v') v v1 v2) u v1 v2 := by
  refine re_el (P := fun u v => wpX_copy (fun r u' => wpY_copy (fun r' v' => r' = r ∧ i_Rel (k + 3) u' v') v v1 v2) u v1 v2) I ?_
  intro n m t p fd cp cq bo jo be sk su sh ma st so ra nr hh
  obtain ⟨hn, hm, ht, hp⟩ := id hh
  unfold wpX_copy wpY_copy
  dsimp only
  by_cases f1 : v2 < 0
  · exact br_t f1 (br_t f1 ⟨rfl, re_in hh⟩)
  by_cases f2 : 12 < v2
  · exact br_f f1 (br_t f2 (br_f f1 (br_t f2 ⟨rfl, re_in hh⟩)))
  by_cases f3 : v1 < 0
  · exact br_f f1 (br_f f2 (br_t f3 (br_f f1 (br_f f2 (br_t f3 ⟨rfl, re_in hh⟩)))))
  by_cases f4 : v1 ≤ nI n - v2
  · refine br_f f1 (br_f f2 (br_f f3 (br_t f4 ?_)))
    obtain ⟨c, hc, rfl⟩ := nI_of f1
    obtain ⟨i, hi, rfl⟩ := nI_of f3
    have c1 : c ≤ 12 := by
      rw [c12_tl hc] at f2
      omega
    have c2 : i + c ≤ n := by
      rw [Int32.le_iff_toInt_le, nI_toInt hi, pk_sub_toInt (by omega) (by omega)] at f4
      omega
    refine ⟨c + 1, ed_c ht hn c1 c2 (br_f f1 (br_f f2 (br_f f3 (br_t f4 ⟨c + 1, ?_⟩)))) (c + 1) 0 (by omega) (by omega)⟩
    exact ed_cy hn c1 c2 ⟨rfl, re_in ⟨hn, c1, ht, wp_4 ht hp c⟩⟩ (c + 1) 0 (by omega) (by omega)
  · exact br_f f1 (br_f f2 (br_f f3 (br_f f4 (br_f f1 (br_f f2 (br_f f3 (br_f f4 ⟨rfl, re_in hh⟩)))))))
end
section
/-! the answers: count, next, last, kth, apart, agree -/
def nc_n (t p : Nat → Nat) (n m e : Nat) : Nat → Nat
  | 0 => 0
  | k + 1 => nc_n t p n m e k + (if wr_n t p n m k ≤ e then 1 else 0)
section
variable {n m : Nat} {t p : Nat → Nat} {fd : Int64} {cp cq : Int32} {bo jo be sk su sh ma st so ra nr : Nat → Int32}
theorem an_near {post : Int32 → Prop} {e : Nat} (hk : ok_s n m t p) (he : e ≤ 3) (h : post (nI (nc_n t p n m e (n + 1)))) :
    ∀ N i, n + 1 - i < N → i ≤ n + 1 → wY_near_15 post (nI e) (nI n) (nI m) (ar_f t) (ar_f p) N (nI (nc_n t p n m e i)) (nI i) := by
  intro N
  induction N with
  | zero => intro i z; exact absurd z (Nat.not_lt_zero _)
  | succ N ih =>
    intro i hN hi
    have hn := hk.1
    have hm := hk.2.1
    rw [wY_near_15]
    dsimp only
    refine pk_lt n i (fun z => ?_) (fun z => yw_X hk (by omega) ?_)
    · have : i = n + 1 := by omega
      subst this
      exact h
    · have step := ih (i + 1) (by omega) (by omega)
      have e1 : nc_n t p n m e (i + 1) = nc_n t p n m e i + (if wr_n t p n m i ≤ e then 1 else 0) := rfl
      rw [e1] at step
      have b := wr_le (t := t) (p := p) (n := n) (i := i) hm
      rw [nI_1, nI_1]
      refine pk_lt e (wr_n t p n m i) (fun g => nm_e ?_) (fun g => nm_e (nm_e ?_))
      · rw [if_neg (by omega), Nat.add_zero] at step
        exact step
      · rw [if_pos g] at step
        exact step
theorem an_yn {post : Int32 → Prop} {e : Nat} (hk : ok_s n m t p) (he : e ≤ 3) (h : post (nI (nc_n t p n m e (n + 1)))) : wpY_near post ((nI n), (nI m), (ar_f t), (ar_f p)) (nI e) :=
  br_f (nI_pos (by omega)) (br_t (nI_le (b := 3) he (by decide)) ⟨n + 2, an_near hk he h (n + 2) 0 (by omega) (by omega)⟩)
theorem an_18 {post : Int32 → SX → Prop} (hk : ok_s n m t p) (hA : oc_A t p n m fd) (h : post (nI (nc_n t p n m 0 (n + 1))) ((nI n), (nI m), fd, cp, cq, (ar_f t), (ar_f p), bo, jo, be, sk, su, sh, ma, st, so, ra, nr)) :
    ∀ N i, n + 1 - i < N → i ≤ n + 1 → wX_count_18 post (nI n) (nI m) fd cp cq (ar_f t) (ar_f p) bo jo be sk su sh ma st so ra nr N (nI (nc_n t p n m 0 i)) (nI i) := by
  intro N
  induction N with
  | zero => intro i z; exact absurd z (Nat.not_lt_zero _)
  | succ N ih =>
    intro i hN hi
    have hn := hk.1
    have hm := hk.2.1
    rw [wX_count_18]
    dsimp only
    have e0 : nI (nc_n t p n m 0 i) + 0 = nI (nc_n t p n m 0 i) := Int32.add_zero _
    rw [e0, nI_1, nI_1]
    have e1 : nc_n t p n m 0 (i + 1) = nc_n t p n m 0 i + (if wr_n t p n m i ≤ 0 then 1 else 0) := rfl
    refine pk_lt n i (fun z => ?_) (fun z => sr_is hn z hA (fun ho => br_f (by decide) (nm_e (nm_e ?_))) (fun ho => br_t rfl (nm_e (nm_e ?_))))
    · have : i = n + 1 := by omega
      subst this
      exact h
    · have step := ih (i + 1) (by omega) (by omega)
      rw [e1, if_pos (by rw [wr_oc.mpr ho]; exact Nat.le_refl 0)] at step
      exact step
    · have step := ih (i + 1) (by omega) (by omega)
      rw [e1, if_neg (fun g => ho (wr_oc.mp (by omega))), Nat.add_zero] at step
      exact step
/-! next -/
def an_G (t p : Nat → Nat) (n m : Nat) (x : Int32) (i : Nat) : Prop := oc_c t p n m i ∧ ¬ nI i < x
def an_R (n : Nat) (G : Nat → Prop) (r : Int32) : Prop := (∃ j, j ≤ n ∧ G j ∧ (∀ i, i < j → ¬ G i) ∧ r = nI j) ∨ ((∀ i, i ≤ n → ¬ G i) ∧ r = -1)
theorem an_Ru {n : Nat} {G : Nat → Prop} {r r' : Int32} (h : an_R n G r) (h' : an_R n G r') : r' = r := by
  rcases h with ⟨j, j1, j2, j3, rfl⟩ | ⟨a, rfl⟩ <;> rcases h' with ⟨j', k1, k2, k3, rfl⟩ | ⟨a', rfl⟩
  · rcases Nat.lt_trichotomy j j' with g | g | g
    · exact absurd j2 (k3 j g)
    · rw [g]
    · exact absurd k2 (j3 j' g)
  · exact absurd j2 (a' j j1)
  · exact absurd k2 (a j' k1)
  · rfl
theorem an_24 {post : Int32 → SX → Prop} {x : Int32} (hk : ok_s n m t p) (hA : oc_A t p n m fd) (H : ∀ r, an_R n (an_G t p n m x) r → post r ((nI n), (nI m), fd, cp, cq, (ar_f t), (ar_f p), bo, jo, be, sk, su, sh, ma, st, so, ra, nr)) :
    ∀ N i, n + 1 - i < N → i < 2 ^ 31 → ¬ nI i < x → (∀ j, j < i → ¬ an_G t p n m x j) → wX_next_24 post (nI n) (nI m) fd cp cq (ar_f t) (ar_f p) bo jo be sk su sh ma st so ra nr N (nI i) := by
  intro N
  induction N with
  | zero => intro i z; exact absurd z (Nat.not_lt_zero _)
  | succ N ih =>
    intro i hN hi hx hno
    have hn := hk.1
    rw [wX_next_24]
    dsimp only
    refine pk_lt n i (fun z => H _ (Or.inr ⟨fun j hj => hno j (by omega), rfl⟩)) (fun z => sr_is hn z hA (fun ho => br_f (by decide) ?_) (fun ho => br_t rfl ?_))
    · exact H _ (Or.inl ⟨i, z, ⟨ho, hx⟩, hno, rfl⟩)
    · rw [nI_1]
      refine nm_e (ih (i + 1) (by omega) (by omega) (fun y => hx ?_) (fun j hj => ?_))
      · rw [Int32.lt_iff_toInt_lt, nI_toInt (by omega)] at y ⊢
        omega
      · by_cases e : j = i
        · subst e; exact fun g => ho g.1
        · exact hno j (by omega)
theorem an_2 {post : Int32 → Prop} {e : Nat} {x : Int32} (hk : ok_s n m t p) (he : e < 10) (H : ∀ r, an_R n (an_G t p n m x) r → post r) :
    ∀ N i, n + 1 - i < N → i ≤ n + 1 → (∀ j, j < i → ¬ an_G t p n m x j) → wY_next_2 post (nI e) x (nI n) (nI m) (ar_f t) (ar_f p) N (nI i) := by
  intro N
  induction N with
  | zero => intro i z; exact absurd z (Nat.not_lt_zero _)
  | succ N ih =>
    intro i hN hi hno
    have hn := hk.1
    have hm := hk.2.1
    rw [wY_next_2]
    dsimp only
    have step : ¬ an_G t p n m x i → i ≤ n → wY_next_2 post (nI e) x (nI n) (nI m) (ar_f t) (ar_f p) N (nI (i + 1)) := by
      intro hg hin
      refine ih (i + 1) (by omega) (by omega) (fun j hj => ?_)
      by_cases e : j = i
      · subst e; exact hg
      · exact hno j (by omega)
    rw [nI_1]
    refine pk_lt n i (fun z => H _ (Or.inr ⟨fun j hj => hno j (by omega), rfl⟩)) (fun z => ys_y he (br_f (by decide) (br_c (fun g => nm_e (step (fun y => y.2 g) z)) (fun g => yw_X hk (by omega) ?_))))
    have b := wr_le (t := t) (p := p) (n := n) (i := i) hm
    rw [c0_eq (by omega), wr_oc]
    exact ⟨fun ho => H _ (Or.inl ⟨i, z, ⟨ho, g⟩, hno, rfl⟩), fun ho => nm_e (step (fun y => ho y.1) z)⟩
/-! last -/
def la_G (t p : Nat → Nat) (n m : Nat) (x : Int32) (i : Nat) : Prop := oc_c t p n m i ∧ nI i ≤ x
def la_R (n : Nat) (G : Nat → Prop) (r : Int32) : Prop := (∃ j, j ≤ n ∧ G j ∧ (∀ i, j < i → i ≤ n → ¬ G i) ∧ r = nI j) ∨ ((∀ i, i ≤ n → ¬ G i) ∧ r = -1)
theorem la_Ru {n : Nat} {G : Nat → Prop} {r r' : Int32} (h : la_R n G r) (h' : la_R n G r') : r' = r := by
  rcases h with ⟨j, j1, j2, j3, rfl⟩ | ⟨a, rfl⟩ <;> rcases h' with ⟨j', k1, k2, k3, rfl⟩ | ⟨a', rfl⟩
  · rcases Nat.lt_trichotomy j j' with g | g | g
    · exact absurd k2 (j3 j' g k1)
    · rw [g]
    · exact absurd j2 (k3 j g j1)
  · exact absurd j2 (a' j j1)
  · exact absurd k2 (a j' k1)
  · rfl
theorem la_31 {post : Int32 → SX → Prop} {x : Int32} (hk : ok_s n m t p) (hA : oc_A t p n m fd) (H : ∀ r, la_R n (la_G t p n m x) r → post r ((nI n), (nI m), fd, cp, cq, (ar_f t), (ar_f p), bo, jo, be, sk, su, sh, ma, st, so, ra, nr)) :
    ∀ N I, I < N → I ≤ n + 1 → (∀ i, I = i + 1 → nI i ≤ x) → (∀ j, I ≤ j → j ≤ n → ¬ la_G t p n m x j) → wX_last_31 post (nI n) (nI m) fd cp cq (ar_f t) (ar_f p) bo jo be sk su sh ma st so ra nr N (mi_p I) := by
  intro N
  induction N with
  | zero => intro i z; exact absurd z (Nat.not_lt_zero _)
  | succ N ih =>
    intro I hN hI hx hno
    have hn := hk.1
    rw [wX_last_31]
    dsimp only
    cases I with
    | zero => exact br_t mi_neg (H _ (Or.inr ⟨fun j hj => hno j (by omega) hj, rfl⟩))
    | succ i =>
      rw [mi_s]
      have hxi := hx i rfl
      refine br_f (nI_pos (by omega)) (sr_is hn (by omega) hA (fun ho => br_f (by decide) ?_) (fun ho => br_t rfl ?_))
      · exact H _ (Or.inl ⟨i, by omega, ⟨ho, hxi⟩, fun j h1 h2 => hno j (by omega) h2, rfl⟩)
      · refine nm_r (mi_m i) (ih i (by omega) (by omega) (fun j hj => ?_) (fun j h1 h2 => ?_))
        · subst hj
          exact Int32.le_trans (nI_le (by omega) (by omega)) hxi
        · by_cases e : j = i
          · subst e; exact fun g => ho g.1
          · exact hno j (by omega) h2
theorem la_5 {post : Int32 → Prop} {e : Nat} {x : Int32} (hk : ok_s n m t p) (he : e < 10) (H : ∀ r, la_R n (la_G t p n m x) r → post r) :
    ∀ N I, I < N → I ≤ n + 1 → (∀ j, I ≤ j → j ≤ n → ¬ la_G t p n m x j) → wY_last_5 post (nI e) x (nI n) (nI m) (ar_f t) (ar_f p) N (mi_p I) := by
  intro N
  induction N with
  | zero => intro i z; exact absurd z (Nat.not_lt_zero _)
  | succ N ih =>
    intro I hN hI hno
    have hn := hk.1
    have hm := hk.2.1
    rw [wY_last_5]
    dsimp only
    cases I with
    | zero => exact br_t mi_neg (H _ (Or.inr ⟨fun j hj => hno j (by omega) hj, rfl⟩))
    | succ i =>
      rw [mi_s]
      have step : ¬ la_G t p n m x i → wY_last_5 post (nI e) x (nI n) (nI m) (ar_f t) (ar_f p) N (mi_p i) := by
        intro hg
        refine ih i (by omega) (by omega) (fun j h1 h2 => ?_)
        by_cases e : j = i
        · subst e; exact hg
        · exact hno j (by omega) h2
      refine br_f (nI_pos (by omega)) (ys_y he (br_f (by decide) (br_c (fun g => nm_r (mi_m i) (step (fun y => Int32.not_le.mpr g y.2))) (fun g => yw_X hk (by omega) ?_))))
      have b := wr_le (t := t) (p := p) (n := n) (i := i) hm
      rw [c0_eq (by omega), wr_oc]
      exact ⟨fun ho => H _ (Or.inl ⟨i, by omega, ⟨ho, Int32.not_lt.mp g⟩, fun j h1 h2 => hno j (by omega) h2, rfl⟩), fun ho => nm_r (mi_m i) (step (fun y => ho y.1))⟩
/-! kth -/
theorem kt_19 {x : Int32} {e : Nat} (hk : ok_s n m t p) (he : e < 10) (hA : oc_A t p n m fd) :
    ∀ d i c, i + d = n + 1 → ∃ r : Int32, (∀ post : Int32 → SX → Prop, post r ((nI n), (nI m), fd, cp, cq, (ar_f t), (ar_f p), bo, jo, be, sk, su, sh, ma, st, so, ra, nr) → wX_kth_19 post x (nI n) (nI m) fd cp cq (ar_f t) (ar_f p) bo jo be sk su sh ma st so ra nr (d + 1) (nI c) (nI i)) ∧ (∀ post : Int32 → Prop, post r → wY_kth_5 post (nI e) x (nI n) (nI m) (ar_f t) (ar_f p) (d + 1) (nI c) (nI i)) := by
  have hn := hk.1
  have hm := hk.2.1
  intro d
  induction d with
  | zero =>
    intro i c hi
    exact ⟨-1, fun post h => br_t (nI_lt (by omega) (by omega)) h, fun post h => br_t (nI_lt (by omega) (by omega)) h⟩
  | succ d ih =>
    intro i c hi
    have b := wr_le (t := t) (p := p) (n := n) (i := i) hm
    have w0 : ∀ post : Int32 → Prop, post (nI (wr_n t p n m i)) → wpY_wrong post ((nI n), (nI m), (ar_f t), (ar_f p)) (nI i) := fun post h => yw_X hk (by omega) h
    have gt : ¬ nI n < nI i := nI_nlt (by omega) (by omega)
    by_cases ho : oc_c t p n m i
    · have z : nI (wr_n t p n m i) = 0 := (c0_eq (by omega)).mpr (wr_oc.mpr ho)
      by_cases hc : nI c = x
      · refine ⟨nI i, fun post h => br_f gt (sr_is hn (by omega) hA (fun _ => br_f (by decide) (br_t hc h)) (fun g => absurd ho g)), fun post h => br_f gt (ys_y he (br_f (by decide) (w0 _ (br_t z (br_t hc h)))))⟩
      · obtain ⟨r, hX, hY⟩ := ih (i + 1) (c + 1) (by omega)
        refine ⟨r, fun post h => br_f gt (sr_is hn (by omega) hA (fun _ => br_f (by decide) (br_f hc (nm_r (nI_1 c) (nm_r (nI_1 i) (hX post h))))) (fun g => absurd ho g)), fun post h => br_f gt (ys_y he (br_f (by decide) (w0 _ (br_t z (br_f hc (nm_r (nI_1 c) (nm_r (nI_1 i) (hY post h))))))))⟩
    · have z : ¬ nI (wr_n t p n m i) = 0 := fun g => ho (wr_oc.mp ((c0_eq (by omega)).mp g))
      obtain ⟨r, hX, hY⟩ := ih (i + 1) c (by omega)
      refine ⟨r, fun post h => br_f gt (sr_is hn (by omega) hA (fun g => absurd g ho) (fun _ => br_t rfl (nm_r (nI_1 i) (hX post h)))), fun post h => br_f gt (ys_y he (br_f (by decide) (w0 _ (br_f z (nm_r (nI_1 i) (hY post h))))))⟩
/-! apart -/
theorem ap_21 {e : Nat} (hk : ok_s n m t p) (he : e < 10) (hA : oc_A t p n m fd) :
    ∀ d i c f g, i + d = n + 1 → f ≤ 100 → g ≤ 100 → (f = g ∨ (f ≤ i ∧ g ≤ i)) → ∃ r : Int32, (∀ post : Int32 → SX → Prop, post r ((nI n), (nI m), fd, cp, cq, (ar_f t), (ar_f p), bo, jo, be, sk, su, sh, ma, st, so, ra, nr) → wX_apart_21 post (nI n) (nI m) fd cp cq (ar_f t) (ar_f p) bo jo be sk su sh ma st so ra nr (d + 1) (nI c) (nI f) (nI i)) ∧ (∀ post : Int32 → Prop, post r → wY_apart_7 post (nI e) (nI n) (nI m) (ar_f t) (ar_f p) (d + 1) (nI c) (nI g) (nI i)) := by
  have hn := hk.1
  have hm := hk.2.1
  intro d
  induction d with
  | zero =>
    intro i c f g hi _ _ _
    exact ⟨nI c, fun post h => br_t (nI_lt (by omega) (by omega)) h, fun post h => br_t (nI_lt (by omega) (by omega)) (ys_y he (br_f (by decide) h))⟩
  | succ d ih =>
    intro i c f g hi hf hg hfg
    have b := wr_le (t := t) (p := p) (n := n) (i := i) hm
    have w0 : ∀ post : Int32 → Prop, post (nI (wr_n t p n m i)) → wpY_wrong post ((nI n), (nI m), (ar_f t), (ar_f p)) (nI i) := fun post h => yw_X hk (by omega) h
    have gt : ¬ nI n < nI i := nI_nlt (by omega) (by omega)
    by_cases hif : i < f
    · have e1 : f = g := by omega
      subst e1
      obtain ⟨r, hX, hY⟩ := ih (i + 1) c f f (by omega) hf hf (Or.inl rfl)
      have l1 : nI i < nI f := nI_lt hif (by omega)
      refine ⟨r, fun post h => br_f gt (sr_is hn (by omega) hA (fun _ => br_f (by decide) (br_t l1 (nm_r (nI_1 i) (hX post h)))) (fun _ => br_t rfl (nm_r (nI_1 i) (hX post h)))), fun post h => br_f gt (br_t l1 (nm_r (nI_1 i) (hY post h)))⟩
    · have l1 : ¬ nI i < nI f := nI_nlt (by omega) (by omega)
      have l2 : ¬ nI i < nI g := nI_nlt (by omega) (by omega)
      by_cases ho : oc_c t p n m i
      · have z : nI (wr_n t p n m i) = 0 := (c0_eq (by omega)).mpr (wr_oc.mpr ho)
        by_cases hm0 : m = 0
        · obtain ⟨r, hX, hY⟩ := ih (i + 1) (c + 1) (i + 1) (i + m) (by omega) (by omega) (by omega) (Or.inr (by omega))
          have m0 : nI m ≤ 0 := (c0_el (by omega)).mpr hm0
          refine ⟨r, fun post h => br_f gt (sr_is hn (by omega) hA (fun _ => br_f (by decide) (br_f l1 (nm_r (nI_1 c) (br_t m0 (nm_r (nI_1 i) (nm_r (nI_1 i) (hX post h))))))) (fun g => absurd ho g)), fun post h => br_f gt (br_f l2 (w0 _ (br_t z (nm_r (nI_1 c) (nm_r (nI_add i m) (nm_r (nI_1 i) (hY post h)))))))⟩
        · obtain ⟨r, hX, hY⟩ := ih (i + 1) (c + 1) (i + m) (i + m) (by omega) (by omega) (by omega) (Or.inl rfl)
          have m0 : ¬ nI m ≤ 0 := fun y => hm0 ((c0_el (by omega)).mp y)
          refine ⟨r, fun post h => br_f gt (sr_is hn (by omega) hA (fun _ => br_f (by decide) (br_f l1 (nm_r (nI_1 c) (br_f m0 (nm_r (nI_add i m) (nm_r (nI_1 i) (hX post h))))))) (fun g => absurd ho g)), fun post h => br_f gt (br_f l2 (w0 _ (br_t z (nm_r (nI_1 c) (nm_r (nI_add i m) (nm_r (nI_1 i) (hY post h)))))))⟩
      · have z : ¬ nI (wr_n t p n m i) = 0 := fun g => ho (wr_oc.mp ((c0_eq (by omega)).mp g))
        obtain ⟨r, hX, hY⟩ := ih (i + 1) c f g (by omega) hf hg (by omega)
        refine ⟨r, fun post h => br_f gt (sr_is hn (by omega) hA (fun g => absurd g ho) (fun _ => br_t rfl (nm_r (nI_1 i) (hX post h)))), fun post h => br_f gt (br_f l2 (w0 _ (br_f z (nm_r (nI_1 i) (hY post h)))))⟩
end
end
section
/-! the owed ones: count, next, last, kth, apart, agree -/
section
variable {n m : Nat} {t p : Nat → Nat} {fd : Int64} {cp cq : Int32} {bo jo be sk su sh ma st so ra nr : Nat → Int32}
theorem ap_bad {post : Int32 → Prop} {v : Int32} (hk : ok_s n m t p) (hv : v < 0 ∨ 10 ≤ v) (h : post (-1)) :
    ∀ N i c g, n + 1 - i < N → i ≤ n + 1 → g ≤ 100 → wY_apart_7 post v (nI n) (nI m) (ar_f t) (ar_f p) N (nI c) (nI g) (nI i) := by
  have hn := hk.1
  have hm := hk.2.1
  intro N
  induction N with
  | zero => intro i c g z; exact absurd z (Nat.not_lt_zero _)
  | succ N ih =>
    intro i c g hN hi hg
    rw [wY_apart_7]
    dsimp only
    rw [nI_1, nI_1, nI_add]
    refine pk_lt n i (fun z => ys_n hv (br_t rfl h)) (fun z => pk_lt i g (fun y => nm_e (ih (i + 1) c g (by omega) (by omega) hg)) (fun y => yw_X hk (by omega) ?_))
    exact br_c (fun _ => nm_e (nm_e (nm_e (ih (i + 1) (c + 1) (i + m) (by omega) (by omega) (by omega))))) (fun _ => nm_e (ih (i + 1) c g (by omega) (by omega) hg))
end
theorem i_vc_count {k : Nat} {u : SX} {v : SY} (I : i_Rel k u v) (hk : k + 3 ≤ 1536) (v1 : Int32) : wpX_count (fun r u' => wpY_count (fun r' => r' = r ∧ i_Rel (k + 3) u' v) v v1) u v1 := by
  refine re_el (P := fun u v => wpX_count (fun r u' => wpY_count (fun r' => r' = r ∧ i_Rel (k + 3) u' v) v v1) u v1) I ?_
  intro n m t p fd cp cq bo jo be sk su sh ma st so ra nr hh
  unfold wpX_count wpY_count
  dsimp only
  rcases pk_ix v1 (n := 10) (by decide) with h | h | ⟨e, he, rfl⟩
  · exact is_n (Or.inl h) (br_t rfl (ys_n (Or.inl h) (br_t rfl ⟨rfl, re_in hh⟩)))
  · exact is_n (Or.inr h) (br_t rfl (ys_n (Or.inr h) (br_t rfl ⟨rfl, re_in hh⟩)))
  · refine is_y he (br_f (by decide) (sr_all hh he (fun fd' cp' cq' bo' jo' be' sk' su' sh' ma' st' so' ra' nr' hA => ⟨n + 2, ?_⟩)))
    refine an_18 hh hA ?_ (n + 2) 0 (by omega) (by omega)
    exact ys_y he (br_f (by decide) (an_yn (e := 0) hh (by omega) ⟨rfl, re_in hh⟩))
theorem i_vc_next {k : Nat} {u : SX} {v : SY} (I : i_Rel k u v) (hk : k + 3 ≤ 1536) (v1 : Int32) (v2 : Int32) : wpX_next (fun r u' => wpY_next (fun r' => r' = r ∧ i_Rel (k + 3) u' v) v v1 v2) u v1 v2 := by
  refine re_el (P := fun u v => wpX_next (fun r u' => wpY_next (fun r' => r' = r ∧ i_Rel (k + 3) u' v) v v1 v2) u v1 v2) I ?_
  intro n m t p fd cp cq bo jo be sk su sh ma st so ra nr hh
  have hn := hh.1
  unfold wpX_next wpY_next
  dsimp only
  have gt : ¬ nI n < 0 := nI_pos (by omega)
  rcases pk_ix v1 (n := 10) (by decide) with h | h | ⟨e, he, rfl⟩
  · exact is_n (Or.inl h) (br_t rfl ⟨1, br_f gt (ys_n (Or.inl h) (br_t rfl ⟨rfl, re_in hh⟩))⟩)
  · exact is_n (Or.inr h) (br_t rfl ⟨1, br_f gt (ys_n (Or.inr h) (br_t rfl ⟨rfl, re_in hh⟩))⟩)
  · refine is_y he (br_f (by decide) (sr_all hh he (fun fd' cp' cq' bo' jo' be' sk' su' sh' ma' st' so' ra' nr' hA => ?_)))
    have fin : ∀ r, an_R n (an_G t p n m v2) r → ∃ n2, wY_next_2 (fun r' => r' = r ∧ i_Rel (k + 3) ((nI n), (nI m), fd', cp', cq', (ar_f t), (ar_f p), bo', jo', be', sk', su', sh', ma', st', so', ra', nr') ((nI n), (nI m), (ar_f t), (ar_f p))) (nI e) v2 (nI n) (nI m) (ar_f t) (ar_f p) n2 0 :=
      fun r hr => ⟨n + 2, an_2 hh he (fun r' hr' => ⟨an_Ru hr hr', re_in hh⟩) (n + 2) 0 (by omega) (by omega) (fun j hj => absurd hj (Nat.not_lt_zero j))⟩
    by_cases f1 : 0 ≤ v2
    · obtain ⟨f, hf, rfl⟩ := nI_of (Int32.not_lt.mpr f1)
      refine br_t f1 ⟨n + 2, an_24 hh hA fin (n + 2) f (by omega) hf (nI_nlt (Nat.le_refl f) hf) (fun j hj g => g.2 (nI_lt hj hf))⟩
    · refine br_f f1 ⟨n + 2, an_24 hh hA fin (n + 2) 0 (by omega) (by omega) (fun g => f1 ?_) (fun j hj => absurd hj (Nat.not_lt_zero j))⟩
      exact Int32.le_of_lt g
theorem i_vc_last {k : Nat} {u : SX} {v : SY} (I : i_Rel k u v) (hk : k + 3 ≤ 1536) (v1 : Int32) (v2 : Int32) : wpX_last (fun r u' => wpY_last (fun r' => r' = r ∧ i_Rel (k + 3) u' v) v v1 v2) u v1 v2 := by
  refine re_el (P := fun u v => wpX_last (fun r u' => wpY_last (fun r' => r' = r ∧ i_Rel (k + 3) u' v) v v1 v2) u v1 v2) I ?_
  intro n m t p fd cp cq bo jo be sk su sh ma st so ra nr hh
  have hn := hh.1
  unfold wpX_last wpY_last
  dsimp only
  have gt : ¬ nI n < 0 := nI_pos (by omega)
  rcases pk_ix v1 (n := 10) (by decide) with h | h | ⟨e, he, rfl⟩
  · exact is_n (Or.inl h) (br_t rfl ⟨1, br_f gt (ys_n (Or.inl h) (br_t rfl ⟨rfl, re_in hh⟩))⟩)
  · exact is_n (Or.inr h) (br_t rfl ⟨1, br_f gt (ys_n (Or.inr h) (br_t rfl ⟨rfl, re_in hh⟩))⟩)
  · refine is_y he (br_f (by decide) (sr_all hh he (fun fd' cp' cq' bo' jo' be' sk' su' sh' ma' st' so' ra' nr' hA => ?_)))
    have fin : ∀ r, la_R n (la_G t p n m v2) r → ∃ n5, wY_last_5 (fun r' => r' = r ∧ i_Rel (k + 3) ((nI n), (nI m), fd', cp', cq', (ar_f t), (ar_f p), bo', jo', be', sk', su', sh', ma', st', so', ra', nr') ((nI n), (nI m), (ar_f t), (ar_f p))) (nI e) v2 (nI n) (nI m) (ar_f t) (ar_f p) n5 (nI n) := by
      intro r hr
      refine ⟨n + 2, ?_⟩
      have := la_5 (n := n) (m := m) (t := t) (p := p) (post := fun r' => r' = r ∧ i_Rel (k + 3) ((nI n), (nI m), fd', cp', cq', (ar_f t), (ar_f p), bo', jo', be', sk', su', sh', ma', st', so', ra', nr') ((nI n), (nI m), (ar_f t), (ar_f p))) (x := v2) hh he (fun r' hr' => ⟨la_Ru hr hr', re_in hh⟩) (n + 2) (n + 1) (by omega) (by omega) (fun j h1 h2 => by omega)
      rw [mi_s] at this
      exact this
    have go := la_31 (n := n) (m := m) (t := t) (p := p) (fd := fd') (cp := cp') (cq := cq') (bo := bo') (jo := jo') (be := be') (sk := sk') (su := su') (sh := sh') (ma := ma') (st := st') (so := so') (ra := ra') (nr := nr') (post := fun r u' => ∃ n5, wY_last_5 (fun r' => r' = r ∧ i_Rel (k + 3) u' ((nI n), (nI m), (ar_f t), (ar_f p))) (nI e) v2 (nI n) (nI m) (ar_f t) (ar_f p) n5 (nI n)) (x := v2) hh hA fin
    by_cases f1 : v2 ≤ nI n
    · by_cases f2 : v2 < 0
      · refine br_t f1 ⟨1, br_t f2 (fin (-1) (Or.inr ⟨fun i hi g => ?_, rfl⟩))⟩
        have g2 := g.2
        have e0 : (0 : Int32).toInt = 0 := by decide
        rw [Int32.le_iff_toInt_le, nI_toInt (by omega)] at g2
        rw [Int32.lt_iff_toInt_lt] at f2
        omega
      · obtain ⟨f, hf, rfl⟩ := nI_of f2
        rw [nI_leI hf (by omega)] at f1
        refine br_t (nI_le f1 (by omega)) ⟨n + 2, ?_⟩
        have := go (n + 2) (f + 1) (by omega) (by omega) (fun i hi => nI_le (by omega) hf) (fun j h1 h2 g => by
          have := g.2
          rw [nI_leI (by omega) hf] at this
          omega)
        rw [mi_s] at this
        exact this
    · refine br_f f1 ⟨n + 2, ?_⟩
      have := go (n + 2) (n + 1) (by omega) (by omega) (fun i hi => Int32.le_trans (nI_le (b := n) (by omega) (by omega)) (Int32.le_of_lt (Int32.not_le.mp f1))) (fun j h1 h2 => by omega)
      rw [mi_s] at this
      exact this
theorem i_vc_kth {k : Nat} {u : SX} {v : SY} (I : i_Rel k u v) (hk : k + 3 ≤ 1536) (v1 : Int32) (v2 : Int32) : wpX_kth (fun r u' => wpY_kth (fun r' => r' = r ∧ i_Rel (k + 3) u' v) v v1 v2) u v1 v2 := by
  refine re_el (P := fun u v => wpX_kth (fun r u' => wpY_kth (fun r' => r' = r ∧ i_Rel (k + 3) u' v) v v1 v2) u v1 v2) I ?_
  intro n m t p fd cp cq bo jo be sk su sh ma st so ra nr hh
  have hn := hh.1
  unfold wpX_kth wpY_kth
  dsimp only
  have gt : ¬ nI n < 0 := nI_pos (by omega)
  rcases pk_ix v1 (n := 10) (by decide) with h | h | ⟨e, he, rfl⟩
  · exact is_n (Or.inl h) (br_t rfl ⟨1, br_f gt (ys_n (Or.inl h) (br_t rfl ⟨rfl, re_in hh⟩))⟩)
  · exact is_n (Or.inr h) (br_t rfl ⟨1, br_f gt (ys_n (Or.inr h) (br_t rfl ⟨rfl, re_in hh⟩))⟩)
  · refine is_y he (br_f (by decide) (sr_all hh he (fun fd' cp' cq' bo' jo' be' sk' su' sh' ma' st' so' ra' nr' hA => ?_)))
    obtain ⟨r, hX, hY⟩ := kt_19 (x := v2) (cp := cp') (cq := cq') (bo := bo') (jo := jo') (be := be') (sk := sk') (su := su') (sh := sh') (ma := ma') (st := st') (so := so') (ra := ra') (nr := nr') hh he hA (n + 1) 0 0 (by omega)
    exact ⟨n + 2, hX _ ⟨n + 2, hY _ ⟨rfl, re_in hh⟩⟩⟩
theorem i_vc_apart {k : Nat} {u : SX} {v : SY} (I : i_Rel k u v) (hk : k + 3 ≤ 1536) (v1 : Int32) : wpX_apart (fun r u' => wpY_apart (fun r' => r' = r ∧ i_Rel (k + 3) u' v) v v1) u v1 := by
  refine re_el (P := fun u v => wpX_apart (fun r u' => wpY_apart (fun r' => r' = r ∧ i_Rel (k + 3) u' v) v v1) u v1) I ?_
  intro n m t p fd cp cq bo jo be sk su sh ma st so ra nr hh
  have hn := hh.1
  unfold wpX_apart wpY_apart
  dsimp only
  rcases pk_ix v1 (n := 10) (by decide) with h | h | ⟨e, he, rfl⟩
  · exact is_n (Or.inl h) (br_t rfl ⟨n + 2, ap_bad hh (Or.inl h) ⟨rfl, re_in hh⟩ (n + 2) 0 0 0 (by omega) (by omega) (by omega)⟩)
  · exact is_n (Or.inr h) (br_t rfl ⟨n + 2, ap_bad hh (Or.inr h) ⟨rfl, re_in hh⟩ (n + 2) 0 0 0 (by omega) (by omega) (by omega)⟩)
  · refine is_y he (br_f (by decide) (sr_all hh he (fun fd' cp' cq' bo' jo' be' sk' su' sh' ma' st' so' ra' nr' hA => ?_)))
    obtain ⟨r, hX, hY⟩ := ap_21 (cp := cp') (cq := cq') (bo := bo') (jo := jo') (be := be') (sk := sk') (su := su') (sh := sh') (ma := ma') (st := st') (so := so') (ra := ra') (nr := nr') hh he hA (n + 1) 0 0 0 0 (by omega) (by omega) (by omega) (Or.inl rfl)
    exact ⟨n + 2, hX _ ⟨n + 2, hY _ ⟨rfl, re_in hh⟩⟩⟩
theorem i_vc_agree {k : Nat} {u : SX} {v : SY} (I : i_Rel k u v) (hk : k + 3 ≤ 1536) (v1 : Int32) (v2 : Int32) : wpX_agree (fun r u' => wpY_agree (fun r' => r' = r ∧ i_Rel (k + 3) u' v) v v1 v2) u v1 v2 := by
  refine re_el (P := fun u v => wpX_agree (fun r u' => wpY_agree (fun r' => r' = r ∧ i_Rel (k + 3) u' v) v v1 v2) u v1 v2) I ?_
  intro n m t p fd cp cq bo jo be sk su sh ma st so ra nr hh
  unfold wpX_agree wpY_agree
  dsimp only
  rcases pk_ix v1 (n := 10) (by decide) with h | h | ⟨e, he, rfl⟩
  · exact is_n (Or.inl h) (br_t rfl (ys_n (Or.inl h) (br_t rfl ⟨rfl, re_in hh⟩)))
  · exact is_n (Or.inr h) (br_t rfl (ys_n (Or.inr h) (br_t rfl ⟨rfl, re_in hh⟩)))
  · refine is_y he (br_f (by decide) ?_)
    rcases pk_ix v2 (n := 10) (by decide) with h | h | ⟨o, ho, rfl⟩
    · exact is_n (Or.inl h) (br_t rfl (ys_y he (br_f (by decide) (ys_n (Or.inl h) (br_t rfl ⟨rfl, re_in hh⟩)))))
    · exact is_n (Or.inr h) (br_t rfl (ys_y he (br_f (by decide) (ys_n (Or.inr h) (br_t rfl ⟨rfl, re_in hh⟩)))))
    · refine is_y ho (br_f (by decide) (sr_all hh he (fun fd' cp' cq' bo' jo' be' sk' su' sh' ma' st' so' ra' nr' hA => ?_)))
      refine sr_all hh ho (fun fd2 cp2 cq2 bo2 jo2 be2 sk2 su2 sh2 ma2 st2 so2 ra2 nr2 hA2 => ?_)
      exact br_t (oc_A1 hA hA2) (ys_y he (br_f (by decide) (ys_y ho (br_f (by decide) ⟨rfl, re_in hh⟩))))
end
section
/-! border, shared, near -/
section
variable {n m : Nat} {t p : Nat → Nat} {fd : Int64} {cp cq : Int32} {bo jo be sk su sh ma st so ra nr : Nat → Int32}
theorem bo_15 {post : Int32 → Prop} {J : Int32 → Prop} {b : Nat} (hk : ok_s n m t p) (hb : b < m) (h1 : kb_S p p m b → post (nI b)) (h0 : ¬ kb_S p p m b → J (mi_p b)) :
    ∀ N k (x : Int32), b - k < N → k ≤ b → ((x = 1 ∧ ∀ q, q < k → p q = p (m - b + q)) ∨ (x = 0 ∧ ∃ q, q < b ∧ p q ≠ p (m - b + q))) → wY_border_15 post J (nI b) (nI n) (nI m) (ar_f t) (ar_f p) N x (nI k) := by
  obtain ⟨hn, hm, ht, hp⟩ := id hk
  intro N
  induction N with
  | zero => intro k x z; exact absurd z (Nat.not_lt_zero _)
  | succ N ih =>
    intro k x hN hkb hx
    rw [wY_border_15]
    dsimp only
    rw [nI_1, pk_sub (by omega), nI_add]
    rcases hx with ⟨rfl, hq⟩ | ⟨rfl, hq⟩
    · refine pk_le b k (fun z => br_f (by decide) (h1 ⟨by omega, fun q hq' => (hq q (by omega)).symm⟩)) (fun z => br_f (by decide) ⟨vp_in_nI (by omega) (by omega), vp_in_nI (by omega) (by omega), ?_⟩)
      rw [ar_at (by omega), ar_at (by omega), l4_eq hp hp]
      refine ⟨fun g => nm_e (ih (k + 1) 1 (by omega) (by omega) (Or.inl ⟨rfl, fun q hq' => ?_⟩)), fun g => nm_e (ih (k + 1) 0 (by omega) (by omega) (Or.inr ⟨rfl, k, z, g⟩))⟩
      by_cases e : q = k
      · subst e; exact g
      · exact hq q (by omega)
    · refine pk_le b k (fun z => br_t rfl (nm_r (mi_m b) (h0 (fun hs => ?_)))) (fun z => br_t rfl (nm_e (ih (k + 1) 0 (by omega) (by omega) (Or.inr ⟨rfl, hq⟩))))
      obtain ⟨q, q1, q2⟩ := hq
      exact q2 (hs.2 q q1).symm
theorem bo_7 {post : Int32 → Prop} (hk : ok_s n m t p) (hm1 : 1 ≤ m) (H : ∀ b, kb_B p m b → post (nI b)) :
    ∀ N I, I < N → I ≤ m → (∀ c, I ≤ c → c < m → ¬ kb_S p p m c) → wY_border_7 post (nI n) (nI m) (ar_f t) (ar_f p) N (mi_p I) := by
  intro N
  induction N with
  | zero => intro I z; exact absurd z (Nat.not_lt_zero _)
  | succ N ih =>
    intro I hN hI hno
    have hm := hk.2.1
    rw [wY_border_7]
    dsimp only
    cases I with
    | zero => exact absurd kb_0 (hno 0 (Nat.le_refl 0) hm1)
    | succ b =>
      rw [mi_s]
      refine br_f (nI_pos (by omega)) ⟨b + 1, bo_15 hk (by omega) (fun hs => H b ⟨by omega, hs, fun c hc hs' => ?_⟩) (fun hs => ih b (by omega) (by omega) (fun c c1 c2 => ?_)) (b + 1) 0 1 (by omega) (by omega) (Or.inl ⟨rfl, fun q hq => absurd hq (Nat.not_lt_zero q)⟩)⟩
      · rcases Nat.lt_or_ge b c with z | z
        · exact absurd hs' (hno c (by omega) hc)
        · exact z
      · by_cases e : c = b
        · subst e; exact hs
        · exact hno c (by omega) c2
theorem sh_16 {post : Int32 → Prop} {i : Nat} (hk : ok_s n m t p) (hi : i ≤ n) (H : ∀ z, zd_C t p n m i z → post (nI z)) :
    ∀ N z, n - (i + z) < N → i + z ≤ n → z ≤ m → (∀ q, q < z → t (i + q) = p q) → wY_shared_16 post (nI i) (nI n) (nI m) (ar_f t) (ar_f p) N (nI z) := by
  obtain ⟨hn, hm, ht, hp⟩ := id hk
  intro N
  induction N with
  | zero => intro z h; exact absurd h (Nat.not_lt_zero _)
  | succ N ih =>
    intro z hN h1 h2 hq
    rw [wY_shared_16]
    dsimp only
    rw [nI_add, nI_1]
    refine pk_le n (i + z) (fun y => H z ⟨h1, h2, hq, fun g => by omega⟩) (fun y => pk_le m z (fun g => H z ⟨h1, h2, hq, fun _ g' => by omega⟩) (fun g => ⟨vp_in_nI (by omega) (by omega), vp_in_nI (by omega) (by omega), ?_⟩))
    rw [ar_at (by omega), ar_at (by omega), l4_eq ht hp]
    refine ⟨fun e => nm_e (ih (z + 1) (by omega) (by omega) (by omega) (fun q hq' => ?_)), fun e => H z ⟨h1, h2, hq, fun _ _ => e⟩⟩
    by_cases e' : q = z
    · subst e'; exact e
    · exact hq q (by omega)
end
/-! near -/
theorem fb_one : ∀ j, j < 64 → fb_t 1 j = decide (j = 0) := by decide +kernel
theorem nb_01 (y : Int64) : y &&& 1 = 0 ∨ y &&& 1 = 1 := by
  cases h : fb_t y 0
  · left
    apply fb_ext
    intro j hj
    rw [fb_and, fb_one j hj, fb_0]
    by_cases e : j = 0
    · subst e; rw [h]; rfl
    · simp [e]
  · right
    apply fb_ext
    intro j hj
    rw [fb_and, fb_one j hj]
    by_cases e : j = 0
    · subst e; rw [h]; rfl
    · simp [e]
theorem nb_v {x : Int64} {i : Nat} (hi : i < 64) : (((x.toUInt64 >>> ((nI i).toInt64.toUInt64 &&& Int64.toUInt64 63)).toInt64) &&& 1).toInt32 = nI (fb_t x i).toNat := by
  have a := fb_is (x := x) hi
  rcases nb_01 ((x.toUInt64 >>> ((nI i).toInt64.toUInt64 &&& Int64.toUInt64 63)).toInt64) with h | h
  · rw [a.mp h, h]; decide
  · have : fb_t x i = true := by
      apply ts_nf
      intro g
      rw [a.mpr g] at h
      exact absurd h (by decide)
    rw [this, h]; decide
def nr_k (o w e : Bool) (c : Nat) : Prop := (e = false → c = o.toNat + 2 * w.toNat) ∧ (e = true → 4 ≤ c)
theorem nr_s {o w e x : Bool} {c : Nat} (h : nr_k o w e c) : nr_k (o ^^ x) (w ^^ (o && x)) (e || (w && (o && x))) (c + x.toNat) := by
  obtain ⟨h1, h2⟩ := h
  unfold nr_k
  cases o <;> cases w <;> cases e <;> cases x <;> simp at h1 h2 ⊢ <;> omega
theorem nr_d {o w e : Bool} {c l : Nat} (h : nr_k o w e c) (hl : l ≤ 3) : c ≤ l ↔ (e = false ∧ o.toNat + 2 * w.toNat ≤ l) := by
  obtain ⟨h1, h2⟩ := h
  cases e
  · have := h1 rfl
    rw [this]
    simp
  · have := h2 rfl
    constructor
    · intro g; omega
    · intro g; cases g.1
theorem nc_t {t p : Nat → Nat} {n m e i : Nat} (he : e ≤ 3) (hi : n < i + m) : ∀ d, nc_n t p n m e (i + d) = nc_n t p n m e i := by
  intro d
  induction d with
  | zero => rfl
  | succ d ih =>
    show nc_n t p n m e (i + d) + (if wr_n t p n m (i + d) ≤ e then 1 else 0) = _
    have : wr_n t p n m (i + d) = 100 := by unfold wr_n; rw [if_neg (by omega)]
    rw [this, if_neg (by omega), ih, Nat.add_zero]
section
variable {n m : Nat} {t p : Nat → Nat} {fd : Int64} {cp cq : Int32} {bo jo be sk su sh ma st so ra nr : Nat → Int32}
theorem nx_130 {post : Int32 → Prop} {e : Nat} {x2 x4 x6 : Int64} (hk : ok_s n m t p) (he : e ≤ 3) (hb : ∀ j, j + m ≤ n → nr_k (fb_t x2 j) (fb_t x4 j) (fb_t x6 j) (wc_n t p j m)) (h : post (nI (nc_n t p n m e (n + 1)))) :
    ∀ N i, n + 1 - i < N → i ≤ n + 1 → wX_near_130 post (nI e) x2 x4 x6 (nI n) (nI m) fd cp cq (ar_f t) (ar_f p) bo jo be sk su sh ma st so ra nr N (nI (nc_n t p n m e i)) (nI i) := by
  obtain ⟨hn, hm, ht, hp⟩ := id hk
  intro N
  induction N with
  | zero => intro i z; exact absurd z (Nat.not_lt_zero _)
  | succ N ih =>
    intro i hN hi
    have e0 : nI (nc_n t p n m e i) + 0 = nI (nc_n t p n m e i) := Int32.add_zero _
    rw [wX_near_130]
    dsimp only
    rw [nI_add, e0, nI_1, nI_1]
    refine pk_lt n (i + m) (fun z => ?_) (fun z => ?_)
    · have := nc_t (t := t) (p := p) he z (n + 1 - i)
      rw [show i + (n + 1 - i) = n + 1 by omega] at this
      rw [this] at h
      exact h
    · have step := ih (i + 1) (by omega) (by omega)
      have e1 : nc_n t p n m e (i + 1) = nc_n t p n m e i + (if wr_n t p n m i ≤ e then 1 else 0) := rfl
      have ew : wr_n t p n m i = wc_n t p i m := by unfold wr_n; rw [if_pos z]
      have d := nr_d (hb i z) he
      rw [e1, ew] at step
      rw [nb_v (by omega), nb_v (by omega), m2_l, nI_add, fb_is (by omega)]
      have a1 := Bool.toNat_le (fb_t x2 i)
      have a2 := Bool.toNat_le (fb_t x4 i)
      refine nm_e ⟨fun g => pk_lt e ((fb_t x2 i).toNat + 2 * (fb_t x4 i).toNat) (fun y => nm_e (nm_e ?_)) (fun y => nm_e (nm_e ?_)), fun g => nm_e (nm_e ?_)⟩
      · rw [if_neg (fun w => by have := (d.mp w).2; omega), Nat.add_zero] at step
        exact step
      · rw [if_pos (d.mpr ⟨g, y⟩)] at step
        exact step
      · rw [if_neg (fun w => g (d.mp w).1), Nat.add_zero] at step
        exact step
theorem nx_37 {post : Int32 → Prop} {J : _} {e k : Nat} {x2 x4 x6 : Int64} (hk : ok_s n m t p) (hkm : k < m) (hb : ∀ j, j + m ≤ n → nr_k (fb_t x2 j) (fb_t x4 j) (fb_t x6 j) (wc_n t p j k))
    (hJ : ∀ y2 y4 y6, (∀ j, j + m ≤ n → nr_k (fb_t y2 j) (fb_t y4 j) (fb_t y6 j) (wc_n t p j (k + 1))) → J y2 y4 y6 (nI (k + 1))) :
    ∀ N i x9, n + 1 - i < N → i ≤ n + 1 → (∀ j, j < 64 → (fb_t x9 j = true ↔ (j < i ∧ t (j + k) ≠ p k))) → wX_near_37 post J (nI e) x2 x4 x6 (nI k) (nI n) (nI m) fd cp cq (ar_f t) (ar_f p) bo jo be sk su sh ma st so ra nr N x9 (nI i) := by
  obtain ⟨hn, hm, ht, hp⟩ := id hk
  intro N
  induction N with
  | zero => intro i x9 z; exact absurd z (Nat.not_lt_zero _)
  | succ N ih =>
    intro i x9 hN hi hx
    rw [wX_near_37]
    dsimp only
    rw [nI_add, nI_add, nI_1, nI_1]
    refine pk_lt n (i + m) (fun z => nm_e (nm_e (nm_e (nm_e (nm_e (hJ _ _ _ (fun j hj => ?_))))))) (fun z => ⟨vp_in_nI (by omega) (by omega), vp_in_nI (by omega) (by omega), ?_⟩)
    · have s := nr_s (x := fb_t x9 j) (hb j hj)
      rw [fb_xor, fb_xor, fb_or, fb_and, fb_and, fb_and]
      have e1 : wc_n t p j (k + 1) = wc_n t p j k + (if t (j + k) = p k then 0 else 1) := rfl
      have e2 : (fb_t x9 j).toNat = if t (j + k) = p k then 0 else 1 := by
        have := hx j (by omega)
        by_cases y : t (j + k) = p k
        · rw [if_pos y]
          have : fb_t x9 j = false := ts_nt (fun w => (this.mp w).2 y)
          rw [this]; rfl
        · rw [if_neg y, this.mpr ⟨by omega, y⟩]; rfl
      rw [e1, ← e2]
      exact s
    · rw [ar_at (by omega), ar_at (by omega), l4_eq ht hp]
      refine ⟨fun g => nm_e (nm_e (ih (i + 1) _ (by omega) (by omega) (fun j hj => ?_))), fun g => nm_e (nm_e (ih (i + 1) _ (by omega) (by omega) (fun j hj => ?_)))⟩
      · rw [fb_or, fb_0, Bool.or_false, hx j hj]
        constructor
        · exact fun w => ⟨by omega, w.2⟩
        · intro w
          by_cases y : j = i
          · subst y; exact absurd g w.2
          · exact ⟨by omega, w.2⟩
      · rw [fb_or, fb_s (by omega), Bool.or_eq_true, hx j hj, decide_eq_true_eq]
        constructor
        · rintro (w | w)
          · exact ⟨by omega, w.2⟩
          · subst w; exact ⟨by omega, g⟩
        · intro w
          by_cases y : i = j
          · exact Or.inr y
          · exact Or.inl ⟨by omega, w.2⟩
theorem nx_22 {post : Int32 → Prop} {e : Nat} (hk : ok_s n m t p) (he : e ≤ 3) (h : post (nI (nc_n t p n m e (n + 1)))) :
    ∀ N k x2 x4 x6, m - k < N → k ≤ m → (∀ j, j + m ≤ n → nr_k (fb_t x2 j) (fb_t x4 j) (fb_t x6 j) (wc_n t p j k)) → wX_near_22 post (nI e) (nI n) (nI m) fd cp cq (ar_f t) (ar_f p) bo jo be sk su sh ma st so ra nr N x2 x4 x6 (nI k) := by
  intro N
  induction N with
  | zero => intro k x2 x4 x6 z; exact absurd z (Nat.not_lt_zero _)
  | succ N ih =>
    intro k x2 x4 x6 hN hkm hb
    have hm := hk.2.1
    rw [wX_near_22]
    dsimp only
    refine pk_le m k (fun z => ⟨n + 2, ?_⟩) (fun z => ⟨n + 2, ?_⟩)
    · have : k = m := by omega
      subst this
      exact nx_130 hk he hb h (n + 2) 0 (by omega) (by omega)
    · refine nx_37 hk z hb (fun y2 y4 y6 hy => ih (k + 1) y2 y4 y6 (by omega) (by omega) hy) (n + 2) 0 0 (by omega) (by omega) (fun j hj => ?_)
      rw [fb_0]
      exact ⟨fun w => (by cases w), fun w => absurd w.1 (Nat.not_lt_zero j)⟩
end
theorem i_vc_border {k : Nat} {u : SX} {v : SY} (I : i_Rel k u v) (hk : k + 3 ≤ 1536) : wpX_border (fun r u' => wpY_border (fun r' => r' = r ∧ i_Rel (k + 3) u' v) v) u := by
  refine re_el (P := fun u v => wpX_border (fun r u' => wpY_border (fun r' => r' = r ∧ i_Rel (k + 3) u' v) v) u) I ?_
  intro n m t p fd cp cq bo jo be sk su sh ma st so ra nr hh
  obtain ⟨hn, hm, ht, hp⟩ := id hh
  unfold wpX_border wpY_border
  dsimp only
  rw [c0_eq (by omega), mi_d]
  refine ⟨fun z => ?_, fun z => e0_borders hp hm (fun bo' hA => ?_)⟩
  · subst z
    exact nm_e ⟨1, br_t mi_neg ⟨rfl, re_in hh⟩⟩
  · obtain ⟨b, b1, b2⟩ := hA.2 m (by omega) (Nat.le_refl m)
    dsimp only
    rw [nI_clamp (by omega), b1]
    refine ⟨vp_in_nI (by omega) (by omega), nm_e ⟨m + 1, bo_7 hh (by omega) (fun b' hb' => ⟨?_, re_in hh⟩) (m + 1) m (by omega) (Nat.le_refl m) (fun c h1 h2 => by omega)⟩⟩
    rw [kb_Bu hb' b2]
theorem i_vc_shared {k : Nat} {u : SX} {v : SY} (I : i_Rel k u v) (hk : k + 3 ≤ 1536) (v1 : Int32) : wpX_shared (fun r u' => wpY_shared (fun r' => r' = r ∧ i_Rel (k + 3) u' v) v v1) u v1 := by
  refine re_el (P := fun u v => wpX_shared (fun r u' => wpY_shared (fun r' => r' = r ∧ i_Rel (k + 3) u' v) v v1) u v1) I ?_
  intro n m t p fd cp cq bo jo be sk su sh ma st so ra nr hh
  obtain ⟨hn, hm, ht, hp⟩ := id hh
  unfold wpX_shared wpY_shared
  dsimp only
  by_cases f1 : v1 < 0
  · exact br_t f1 (br_t f1 ⟨rfl, re_in hh⟩)
  by_cases f2 : v1 ≤ nI n
  · obtain ⟨i, hi, rfl⟩ := nI_of f1
    have f3 : i ≤ n := (nI_leI hi (by omega)).mp f2
    refine br_f f1 (br_t f2 (e1_find hh (fun jo' be' hE => ?_)))
    have fin : ∀ z, zd_C t p n m i z → ∃ n16, wY_shared_16 (fun r' => r' = nI z ∧ i_Rel (k + 3) ((nI n), (nI m), fd, cp, cq, (ar_f t), (ar_f p), bo, jo', be', sk, su, sh, ma, st, so, ra, nr) ((nI n), (nI m), (ar_f t), (ar_f p))) (nI i) (nI n) (nI m) (ar_f t) (ar_f p) n16 0 := by
      intro z hz
      exact ⟨n + 1, sh_16 hh f3 (fun z' hz' => ⟨by rw [zd_Cu hz' hz], re_in hh⟩) (n + 1) 0 (by omega) (by omega) (by omega) (fun q hq => absurd hq (Nat.not_lt_zero q))⟩
    dsimp only
    refine pk_le n i (fun y => ?_) (fun y => ?_)
    · exact br_f f1 (br_t f2 (fin 0 ⟨by omega, by omega, fun q hq => absurd hq (Nat.not_lt_zero q), fun g => by omega⟩))
    · obtain ⟨z, z1, z2⟩ := hE i y
      rw [nI_1, nI_add, nI_clamp (by omega), z1]
      exact ⟨vp_in_nI (by omega) (by omega), br_f f1 (br_t f2 (fin z z2))⟩
  · exact br_f f1 (br_f f2 (br_f f1 (br_f f2 ⟨rfl, re_in hh⟩)))
theorem i_vc_near {k : Nat} {u : SX} {v : SY} (I : i_Rel k u v) (hk : k + 3 ≤ 1536) (v1 : Int32) : wpX_near (fun r => wpY_near (fun r' => r' = r ∧ i_Rel (k + 3) u v) v v1) u v1 := by
  refine re_el (P := fun u v => wpX_near (fun r => wpY_near (fun r' => r' = r ∧ i_Rel (k + 3) u v) v v1) u v1) I ?_
  intro n m t p fd cp cq bo jo be sk su sh ma st so ra nr hh
  obtain ⟨hn, hm, ht, hp⟩ := id hh
  by_cases f1 : v1 < 0
  · exact br_t f1 (br_t f1 ⟨rfl, re_in hh⟩)
  by_cases f2 : v1 ≤ 3
  · obtain ⟨e, he, rfl⟩ := nI_of f1
    have f3 : e ≤ 3 := (c3_le he).mp f2
    refine br_f f1 (br_t f2 ⟨m + 1, nx_22 (post := fun r => wpY_near (fun r' => r' = r ∧ i_Rel (k + 3) ((nI n), (nI m), fd, cp, cq, (ar_f t), (ar_f p), bo, jo, be, sk, su, sh, ma, st, so, ra, nr) ((nI n), (nI m), (ar_f t), (ar_f p))) ((nI n), (nI m), (ar_f t), (ar_f p)) (nI e)) hh f3 (an_yn hh f3 ⟨rfl, re_in hh⟩) (m + 1) 0 0 0 0 (by omega) (by omega) (fun j hj => ?_)⟩)
    rw [fb_0]
    exact ⟨fun _ => rfl, fun g => by cases g⟩
  · exact br_f f1 (br_f f2 (br_f f1 (br_f f2 ⟨rfl, re_in hh⟩)))
end
