section
/-! rows taken from kit/rows (starting texts) -/
theorem pk_us {f : Nat → Int32} {k : Nat} {x : Int32} : upd f k x k = x := if_pos rfl
theorem pk_un {f : Nat → Int32} {k j : Nat} {x : Int32} (h : j ≠ k) : upd f k x j = f j := if_neg h
theorem pk_uLs {f : Nat → Int64} {k : Nat} {x : Int64} : vp_updL f k x k = x := if_pos rfl
theorem pk_uLn {f : Nat → Int64} {k j : Nat} {x : Int64} (h : j ≠ k) : vp_updL f k x j = f j := if_neg h
theorem pk_sub {a b : Nat} (h : b ≤ a) : nI a - nI b = nI (a - b) := by
  obtain ⟨c, rfl⟩ : ∃ c, a = c + b := ⟨a - b, by omega⟩
  rw [← nI_add, Int32.add_sub_cancel, Nat.add_sub_cancel]
theorem pk_m1 (n : Nat) : nI (n + 1) + (-1) = nI n := by
  rw [← nI_1, Int32.add_assoc, show (1 : Int32) + (-1) = 0 from rfl, Int32.add_zero]
theorem pk_le {x y : Int32} {A B : Prop} (a b : Nat) (f : a ≤ b → A) (g : b < a → B) (hx : x = nI a := by rfl) (hy : y = nI b := by rfl) (ha : a < 2 ^ 31 := by omega) (hb : b < 2 ^ 31 := by omega) : (x ≤ y → A) ∧ (¬ x ≤ y → B) := by
  subst hx hy
  rw [nI_leI ha hb]
  exact ⟨f, fun z => g (by omega)⟩
theorem pk_lt {x y : Int32} {A B : Prop} (a b : Nat) (f : a < b → A) (g : b ≤ a → B) (hx : x = nI a := by rfl) (hy : y = nI b := by rfl) (ha : a < 2 ^ 31 := by omega) (hb : b < 2 ^ 31 := by omega) : (x < y → A) ∧ (¬ x < y → B) := by
  subst hx hy
  rw [nI_ltI ha hb]
  exact ⟨f, fun z => g (by omega)⟩
theorem pk_eq {x y : Int32} {A B : Prop} (a b : Nat) (f : a = b → A) (g : a ≠ b → B) (hx : x = nI a := by rfl) (hy : y = nI b := by rfl) (ha : a < 2 ^ 31 := by omega) (hb : b < 2 ^ 31 := by omega) : (x = y → A) ∧ (¬ x = y → B) := by
  subst hx hy
  rw [nI_eq ha hb]
  exact ⟨f, g⟩
theorem pk_in {x : Int32} (n N : Nat) (h : n < N) (hx : x = nI n := by rfl) (hN : N < 2 ^ 31 := by omega) : vp_in x N := by
  subst hx
  exact vp_in_nI h hN
theorem pk_cl {x : Int32} (n : Nat) (hx : x = nI n := by rfl) (h : n < 2 ^ 31 := by omega) : x.toNatClampNeg = n := by
  subst hx
  exact nI_clamp h
theorem pk_tn {n : Nat} (h : n < 2 ^ 32) : (nI n).toBitVec.toNat = n := Nat.mod_eq_of_lt h
theorem pk_and (x : Int32) {m : Int32} (k : Nat) (hm : m.toBitVec.toNat = 2 ^ k - 1) : x &&& m = nI (x.toBitVec.toNat % 2 ^ k) := by
  apply Int32.toBitVec_inj.mp
  apply BitVec.eq_of_toNat_eq
  rw [Int32.toBitVec_and, BitVec.toNat_and, hm, Nat.and_two_pow_sub_one_eq_mod]
  show _ = (BitVec.ofNat 32 _).toNat
  rw [BitVec.toNat_ofNat]
  exact (Nat.mod_eq_of_lt (Nat.lt_of_le_of_lt (Nat.mod_le _ _) x.toBitVec.isLt)).symm
theorem pk_andE (x : Int32) {m : Int32} (k : Nat) (hm : m.toBitVec.toNat = 2 ^ k - 1) : ∃ j : Nat, j < 2 ^ k ∧ x &&& m = nI j := ⟨_, Nat.mod_lt _ (Nat.two_pow_pos k), pk_and x k hm⟩
theorem pk_andIn (x : Int32) {m : Int32} (k : Nat) (hm : m.toBitVec.toNat = 2 ^ k - 1) (hk : k ≤ 30) : vp_in (x &&& m) (2 ^ k) := by
  obtain ⟨j, hj, e⟩ := pk_andE x k hm
  rw [e]
  exact vp_in_nI hj (Nat.lt_of_le_of_lt (Nat.pow_le_pow_right (by decide) hk) (by decide))
theorem ts_nf {x : Bool} (h : ¬ x = false) : x = true := by cases x <;> first | rfl | exact absurd rfl h
theorem ts_nt {x : Bool} (h : ¬ x = true) : x = false := by cases x <;> first | rfl | exact absurd rfl h
theorem ts_bit {w : Int64} {s : UInt64} {j : Nat} (hj : j < 64) (hs : s.toNat = j) : ((w.toUInt64 >>> s).toInt64 &&& 1) = 0 ↔ w.toBitVec.getLsbD j = false := by
  have e : (w.toUInt64 >>> s).toInt64.toBitVec = w.toBitVec >>> j := by
    apply BitVec.eq_of_toNat_eq
    show (w.toUInt64 >>> s).toNat = _
    rw [UInt64.toNat_shiftRight, hs, Nat.mod_eq_of_lt hj, BitVec.toNat_ushiftRight]
    rfl
  rw [← Int64.toBitVec_inj, Int64.toBitVec_and, e]
  show w.toBitVec >>> j &&& 1#64 = 0#64 ↔ _
  constructor
  · intro h
    have t := congrArg (fun x => x.getLsbD 0) h
    simpa using t
  · intro h
    apply BitVec.eq_of_getLsbD_eq
    intro i hi
    cases i with
    | zero => simp [h]
    | succ i => simp
theorem wb_tb (n : Nat) : (lN n).toBitVec = BitVec.ofNat 64 n := rfl
theorem wb_inj {a b : Int64} (h : a.toBitVec = b.toBitVec) : a = b := Int64.toBitVec_inj.mp h
theorem wb_tn {n : Nat} (h : n < 2 ^ 64) : (lN n).toBitVec.toNat = n := by rw [wb_tb, BitVec.toNat_ofNat, Nat.mod_eq_of_lt h]
theorem wb_c : ∀ k, k < 64 → ((nI k).toInt64 &&& 63) = lN k := by decide +kernel
theorem wb_cu : ∀ k, k < 64 → ((nI k).toInt64.toUInt64 &&& Int64.toUInt64 63) = UInt64.ofNat k := by decide +kernel
theorem wb_sm : ∀ k, k < 64 → (BitVec.ofNat 64 k).smod 64 = BitVec.ofNat 64 k := by decide +kernel
theorem wb_shl (n : Nat) {k : Nat} (hk : k < 64) : lN n <<< ((nI k).toInt64 &&& 63) = lN (n * 2 ^ k) := by
  rw [wb_c k hk]
  apply wb_inj
  rw [Int64.toBitVec_shiftLeft, wb_tb, wb_tb, wb_tb, wb_sm k hk]
  apply BitVec.eq_of_toNat_eq
  rw [BitVec.shiftLeft_eq', BitVec.toNat_shiftLeft, BitVec.toNat_ofNat, BitVec.toNat_ofNat, BitVec.toNat_ofNat, Nat.mod_eq_of_lt (show k < 2 ^ 64 by omega), Nat.shiftLeft_eq, Nat.mul_mod, Nat.mod_mod, ← Nat.mul_mod]
end
section
/-! bits of a long as a set of numbers; sets made of a predicate; counts -/
def tp_m (x : Int64) (i : Nat) : Prop := x.toBitVec.getLsbD i = true
theorem tp_ext {x y : Int64} (h : ∀ i, i < 64 → (tp_m x i ↔ tp_m y i)) : x = y := by
  apply wb_inj
  apply BitVec.eq_of_getLsbD_eq
  intro i hi
  have := h i hi
  unfold tp_m at this
  exact Bool.eq_iff_iff.mpr this
theorem tp_big {x : Int64} {i : Nat} (h : tp_m x i) : i < 64 := by
  unfold tp_m at h
  exact BitVec.lt_of_getLsbD h
theorem tp_or (x y : Int64) (i : Nat) : tp_m (x ||| y) i ↔ (tp_m x i ∨ tp_m y i) := by
  unfold tp_m
  rw [Int64.toBitVec_or, BitVec.getLsbD_or, Bool.or_eq_true]
theorem tp_and (x y : Int64) (i : Nat) : tp_m (x &&& y) i ↔ (tp_m x i ∧ tp_m y i) := by
  unfold tp_m
  rw [Int64.toBitVec_and, BitVec.getLsbD_and, Bool.and_eq_true]
theorem tp_m1 {i : Nat} (hi : i < 64) : tp_m (-1) i := by
  unfold tp_m
  have ha : (-1 : Int64).toBitVec = BitVec.allOnes 64 := by decide
  rw [ha, BitVec.getLsbD_allOnes]
  simp [hi]
theorem tp_not (x : Int64) {i : Nat} (hi : i < 64) : tp_m (x ^^^ (-1)) i ↔ ¬ tp_m x i := by
  unfold tp_m
  have ha : (-1 : Int64).toBitVec = BitVec.allOnes 64 := by decide
  rw [Int64.toBitVec_xor, BitVec.getLsbD_xor, ha, BitVec.getLsbD_allOnes]
  simp [hi]
theorem tp_0 (i : Nat) : ¬ tp_m 0 i := by
  unfold tp_m
  have ha : (0 : Int64).toBitVec = 0#64 := by decide
  rw [ha, BitVec.getLsbD_zero]
  decide
theorem tp_2p {k : Nat} (i : Nat) (hi : i < 64) : tp_m (lN (2 ^ k)) i ↔ i = k := by
  unfold tp_m
  rw [wb_tb, BitVec.getLsbD_ofNat, Nat.testBit_two_pow]
  simp [hi]
  exact ⟨fun h => h.symm, fun h => h.symm⟩
theorem tp_s1 {k : Nat} (hk : k < 64) : (1 : Int64) <<< ((nI k).toInt64 &&& 63) = lN (2 ^ k) := by
  have h := wb_shl 1 hk
  rw [Nat.one_mul] at h
  exact h
theorem tp_1 {k : Nat} (hk : k < 64) (i : Nat) : tp_m ((1 : Int64) <<< ((nI k).toInt64 &&& 63)) i ↔ i = k := by
  rw [tp_s1 hk]
  by_cases hi : i < 64
  · exact tp_2p i hi
  · exact ⟨fun h => absurd (tp_big h) hi, fun h => absurd (h ▸ hk) hi⟩
theorem tp_mask {k : Nat} (hk : k < 64) {i : Nat} (hi : i < 64) : tp_m ((1 : Int64) <<< ((nI k).toInt64 &&& 63) - 1) i ↔ i < k := by
  rw [tp_s1 hk]
  have e : lN (2 ^ k) - 1 = lN (2 ^ k - 1) := lN_sub (Nat.one_le_two_pow)
  rw [e]
  unfold tp_m
  rw [wb_tb, BitVec.getLsbD_ofNat, Nat.testBit_two_pow_sub_one]
  simp [hi]
theorem tp_un {k : Nat} (hk : k < 64) : (UInt64.ofNat k).toNat = k := by
  show (BitVec.ofNat 64 k).toNat = k
  rw [BitVec.toNat_ofNat, Nat.mod_eq_of_lt (by omega)]
theorem tp_tX (S : Int64) {k : Nat} (hk : k < 64) : ((((S.toUInt64 >>> ((nI k).toInt64.toUInt64 &&& Int64.toUInt64 63)).toInt64) &&& 1) = 0) ↔ ¬ tp_m S k := by
  unfold tp_m
  rw [ts_bit hk (by rw [wb_cu k hk]; exact tp_un hk)]
  simp
theorem tp_brX {S : Int64} {k : Nat} {A B : Prop} (hk : k < 64) (f : ¬ tp_m S k → A) (g : tp_m S k → B) : (((((S.toUInt64 >>> ((nI k).toInt64.toUInt64 &&& Int64.toUInt64 63)).toInt64) &&& 1) = 0) → A) ∧ (¬ ((((S.toUInt64 >>> ((nI k).toInt64.toUInt64 &&& Int64.toUInt64 63)).toInt64) &&& 1) = 0) → B) := by
  rw [tp_tX S hk]
  exact ⟨f, fun h => g (Classical.not_not.mp h)⟩
noncomputable def tp_d (p : Prop) : Bool := @decide p (Classical.propDecidable p)
theorem tp_dt {p : Prop} (h : p) : tp_d p = true := @decide_eq_true p (Classical.propDecidable p) h
theorem tp_df {p : Prop} (h : ¬ p) : tp_d p = false := @decide_eq_false p (Classical.propDecidable p) h
noncomputable def tp_o (p : Prop) : Nat := if tp_d p = true then 1 else 0
theorem tp_ot {p : Prop} (h : p) : tp_o p = 1 := by unfold tp_o; rw [tp_dt h]; rfl
theorem tp_of {p : Prop} (h : ¬ p) : tp_o p = 0 := by unfold tp_o; rw [tp_df h]; rfl
theorem tp_o1 (p : Prop) : tp_o p ≤ 1 := by
  by_cases h : p
  · rw [tp_ot h]; exact Nat.le_refl 1
  · rw [tp_of h]; exact Nat.zero_le 1
theorem tp_b1 (i : Nat) : tp_m 1 i ↔ i = 0 := by
  have h := tp_1 (k := 0) (by omega) i
  have e : (1 : Int64) <<< ((nI 0).toInt64 &&& 63) = 1 := by decide +kernel
  rw [e] at h
  exact h
theorem tp_aX (S : Int64) {k : Nat} (hk : k < 64) : ((S.toUInt64 >>> ((nI k).toInt64.toUInt64 &&& Int64.toUInt64 63)).toInt64) &&& 1 = lN (tp_o (tp_m S k)) := by
  by_cases h : tp_m S k
  · rw [tp_ot h]
    have z : ¬ ((((S.toUInt64 >>> ((nI k).toInt64.toUInt64 &&& Int64.toUInt64 63)).toInt64) &&& 1) = 0) := fun z => (tp_tX S hk).mp z h
    generalize ((S.toUInt64 >>> ((nI k).toInt64.toUInt64 &&& Int64.toUInt64 63)).toInt64) = y at z ⊢
    show y &&& 1 = 1
    apply tp_ext
    intro i hi
    rw [tp_and, tp_b1]
    constructor
    · intro h; exact h.2
    · intro e
      subst e
      refine ⟨Classical.byContradiction fun hn => z ?_, rfl⟩
      apply tp_ext
      intro i hi
      rw [tp_and, tp_b1]
      constructor
      · rintro ⟨a, rfl⟩; exact absurd a hn
      · intro a; exact absurd a (tp_0 i)
  · rw [tp_of h]
    exact (tp_tX S hk).mpr h
theorem tp_iX (S : Int64) {k : Nat} (hk : k < 64) : (((S.toUInt64 >>> ((nI k).toInt64.toUInt64 &&& Int64.toUInt64 63)).toInt64).toInt32) &&& 1 = nI (tp_o (tp_m S k)) := by
  have h := congrArg Int64.toInt32 (tp_aX S hk)
  rw [Int64.toInt32_and, lN_i] at h
  exact h
theorem tp_sN {k : Nat} (hk : k < 64) : (((nI k).toInt64 &&& 63).toBitVec.smod 64).toNat = k := by
  rw [wb_c k hk, wb_tb, wb_sm k hk, BitVec.toNat_ofNat, Nat.mod_eq_of_lt (by omega)]
theorem tp_sr (S : Int64) {k : Nat} (hk : k < 64) : tp_m (S >>> ((nI k).toInt64 &&& 63)) 0 ↔ tp_m S k := by
  unfold tp_m
  rw [Int64.toBitVec_shiftRight]
  show (S.toBitVec.sshiftRight (((nI k).toInt64 &&& 63).toBitVec.smod 64).toNat).getLsbD 0 = true ↔ _
  rw [tp_sN hk, BitVec.getLsbD_sshiftRight]
  simp [hk]
theorem tp_aY (S : Int64) {k : Nat} (hk : k < 64) : (S >>> ((nI k).toInt64 &&& 63)) &&& 1 = lN (tp_o (tp_m S k)) := by
  have hs := tp_sr S hk
  generalize S >>> ((nI k).toInt64 &&& 63) = y at hs ⊢
  by_cases h : tp_m S k
  · rw [tp_ot h]
    show y &&& 1 = 1
    apply tp_ext
    intro i hi
    rw [tp_and, tp_b1]
    constructor
    · intro h; exact h.2
    · intro e; subst e; exact ⟨hs.mpr h, rfl⟩
  · rw [tp_of h]
    show y &&& 1 = 0
    apply tp_ext
    intro i hi
    rw [tp_and, tp_b1]
    constructor
    · rintro ⟨a, rfl⟩; exact absurd (hs.mp a) h
    · intro a; exact absurd a (tp_0 i)
theorem tp_iY (S : Int64) {k : Nat} (hk : k < 64) : ((S >>> ((nI k).toInt64 &&& 63)) &&& 1).toInt32 = nI (tp_o (tp_m S k)) := by
  rw [tp_aY S hk, lN_i]
theorem tp_brY {S : Int64} {k : Nat} {A B : Prop} (hk : k < 64) (f : tp_m S k → A) (g : ¬ tp_m S k → B) : (((S >>> ((nI k).toInt64 &&& 63)) &&& 1) = 1 → A) ∧ (¬ ((S >>> ((nI k).toInt64 &&& 63)) &&& 1) = 1 → B) := by
  rw [tp_aY S hk]
  by_cases h : tp_m S k
  · rw [tp_ot h]; exact br_t rfl (f h)
  · rw [tp_of h]; exact br_f (by decide) (g h)
/-! a set made of a predicate -/
noncomputable def tp_mk (f : Nat → Prop) : Nat → Int64
  | 0 => 0
  | n + 1 => tp_mk f n ||| (if tp_d (f n) = true then (1 : Int64) <<< ((nI n).toInt64 &&& 63) else 0)
theorem tp_mkt {f : Nat → Prop} {n : Nat} (h : f n) : tp_mk f n ||| ((1 : Int64) <<< ((nI n).toInt64 &&& 63)) = tp_mk f (n + 1) := by
  rw [tp_mk, tp_dt h, if_pos rfl]
theorem tp_mkf {f : Nat → Prop} {n : Nat} (h : ¬ f n) : tp_mk f n ||| 0 = tp_mk f (n + 1) := by
  rw [tp_mk, tp_df h, if_neg (by decide)]
theorem tp_or0 (x : Int64) : x ||| 0 = x := by
  apply tp_ext
  intro i hi
  rw [tp_or]
  exact ⟨fun h => h.elim id (fun z => absurd z (tp_0 i)), Or.inl⟩
theorem tp_mkm (f : Nat → Prop) (i : Nat) : ∀ n, n ≤ 64 → (tp_m (tp_mk f n) i ↔ i < n ∧ f i) := by
  intro n
  induction n with
  | zero => intro _; exact ⟨fun h => absurd h (tp_0 i), fun h => absurd h.1 (Nat.not_lt_zero i)⟩
  | succ n ih =>
    intro hn
    have ih := ih (by omega)
    by_cases h : f n
    · rw [← tp_mkt h, tp_or, tp_1 (by omega), ih]
      constructor
      · rintro (⟨a, b⟩ | rfl)
        · exact ⟨by omega, b⟩
        · exact ⟨by omega, h⟩
      · rintro ⟨a, b⟩
        by_cases e : i = n
        · exact Or.inr e
        · exact Or.inl ⟨by omega, b⟩
    · rw [← tp_mkf h, tp_or0, ih]
      constructor
      · rintro ⟨a, b⟩; exact ⟨by omega, b⟩
      · rintro ⟨a, b⟩
        by_cases e : i = n
        · subst e; exact absurd b h
        · exact ⟨by omega, b⟩
theorem tp_mke {w : Int64} {f : Nat → Prop} {n : Nat} (hn : n ≤ 64) (h : ∀ i, i < 64 → (tp_m w i ↔ i < n ∧ f i)) : w = tp_mk f n := by
  apply tp_ext
  intro i hi
  rw [h i hi, tp_mkm f i n hn]
theorem tp_mkc {f g : Nat → Prop} {n : Nat} (h : ∀ i, i < n → (f i ↔ g i)) : tp_mk f n = tp_mk g n := by
  induction n with
  | zero => rfl
  | succ n ih =>
    have ih := ih (fun i hi => h i (by omega))
    have e : f n = g n := propext (h n (by omega))
    rw [tp_mk, tp_mk, ih, e]
theorem tp_mk0 {f : Nat → Prop} {n : Nat} (hn : n ≤ 64) (h : ∀ i, i < n → ¬ f i) : tp_mk f n = 0 := by
  symm
  apply tp_mke hn
  intro i hi
  exact ⟨fun z => absurd z (tp_0 i), fun z => absurd z.2 (h i z.1)⟩
theorem tp_mkz {f : Nat → Prop} {n : Nat} (hn : n ≤ 64) (h : tp_mk f n = 0) : ∀ i, i < n → ¬ f i := by
  intro i hi hf
  have := (tp_mkm f i n hn).mpr ⟨hi, hf⟩
  rw [h] at this
  exact tp_0 i this
theorem tp_mkor {f g : Nat → Prop} {n : Nat} (hn : n ≤ 64) : tp_mk f n ||| tp_mk g n = tp_mk (fun i => f i ∨ g i) n := by
  apply tp_mke hn
  intro i hi
  rw [tp_or, tp_mkm f i n hn, tp_mkm g i n hn]
  constructor
  · rintro (⟨a, b⟩ | ⟨a, b⟩)
    · exact ⟨a, Or.inl b⟩
    · exact ⟨a, Or.inr b⟩
  · rintro ⟨a, b | b⟩
    · exact Or.inl ⟨a, b⟩
    · exact Or.inr ⟨a, b⟩
theorem tp_mkand {f g : Nat → Prop} {n : Nat} (hn : n ≤ 64) : tp_mk f n &&& tp_mk g n = tp_mk (fun i => f i ∧ g i) n := by
  apply tp_mke hn
  intro i hi
  rw [tp_and, tp_mkm f i n hn, tp_mkm g i n hn]
  exact ⟨fun h => ⟨h.1.1, h.1.2, h.2.2⟩, fun h => ⟨⟨h.1, h.2.1⟩, ⟨h.1, h.2.2⟩⟩⟩
theorem tp_mkan {f g : Nat → Prop} {n : Nat} (hn : n ≤ 64) : tp_mk f n &&& (tp_mk g n ^^^ (-1)) = tp_mk (fun i => f i ∧ ¬ g i) n := by
  apply tp_mke hn
  intro i hi
  rw [tp_and, tp_not _ hi, tp_mkm f i n hn, tp_mkm g i n hn]
  exact ⟨fun h => ⟨h.1.1, h.1.2, fun z => h.2 ⟨h.1.1, z⟩⟩, fun h => ⟨⟨h.1, h.2.1⟩, fun z => h.2.2 z.2⟩⟩
theorem tp_mkb {f : Nat → Prop} {n k : Nat} (hn : n ≤ 64) (hk : k < n) : tp_mk f n ||| ((1 : Int64) <<< ((nI k).toInt64 &&& 63)) = tp_mk (fun i => f i ∨ i = k) n := by
  apply tp_mke hn
  intro i hi
  rw [tp_or, tp_1 (by omega), tp_mkm f i n hn]
  constructor
  · rintro (⟨a, b⟩ | b)
    · exact ⟨a, Or.inl b⟩
    · exact ⟨by omega, Or.inr b⟩
  · rintro ⟨a, b | b⟩
    · exact Or.inl ⟨a, b⟩
    · exact Or.inr b
theorem tp_mks {f : Nat → Prop} {n k : Nat} (hn : n ≤ 64) (hk : k < n) : tp_mk f n &&& (((1 : Int64) <<< ((nI k).toInt64 &&& 63)) ^^^ (-1)) = tp_mk (fun i => f i ∧ i ≠ k) n := by
  apply tp_mke hn
  intro i hi
  rw [tp_and, tp_not _ hi, tp_1 (by omega), tp_mkm f i n hn]
  exact ⟨fun h => ⟨h.1.1, h.1.2, h.2⟩, fun h => ⟨⟨h.1, h.2.1⟩, h.2.2⟩⟩
theorem tp_am1 (x : Int64) : x &&& (-1) = x := by
  apply tp_ext
  intro i hi
  rw [tp_and]
  exact ⟨fun h => h.1, fun h => ⟨h, tp_m1 hi⟩⟩
theorem tp_self {S : Int64} {c : Nat} (hc : c ≤ 64) (h : ∀ i, tp_m S i → i < c) : S = tp_mk (tp_m S) c :=
  tp_mke hc (fun i _ => ⟨fun z => ⟨h i z, z⟩, fun z => z.2⟩)
/-! counts -/
noncomputable def tp_c (f : Nat → Prop) : Nat → Nat
  | 0 => 0
  | n + 1 => tp_c f n + tp_o (f n)
theorem tp_cs (f : Nat → Prop) (n : Nat) : tp_c f (n + 1) = tp_c f n + tp_o (f n) := rfl
theorem tp_ct {f : Nat → Prop} {n : Nat} (h : f n) : tp_c f (n + 1) = tp_c f n + 1 := by rw [tp_cs, tp_ot h]
theorem tp_cf {f : Nat → Prop} {n : Nat} (h : ¬ f n) : tp_c f (n + 1) = tp_c f n := by rw [tp_cs, tp_of h]; rfl
theorem tp_cle (f : Nat → Prop) (n : Nat) : tp_c f n ≤ n := by
  induction n with
  | zero => exact Nat.le_refl 0
  | succ n ih => rw [tp_cs]; have := tp_o1 (f n); omega
theorem tp_cmono (f : Nat → Prop) {a b : Nat} (h : a ≤ b) : tp_c f a ≤ tp_c f b := by
  induction b with
  | zero => have : a = 0 := by omega
            rw [this]; exact Nat.le_refl _
  | succ b ih =>
    by_cases e : a = b + 1
    · rw [e]; exact Nat.le_refl _
    · have := ih (by omega)
      rw [tp_cs]; omega
theorem tp_clt {f : Nat → Prop} {a b : Nat} (h : a < b) (ha : f a) : tp_c f a < tp_c f b := by
  have := tp_cmono f (a := a + 1) (b := b) h
  rw [tp_ct ha] at this
  omega
theorem tp_cinj {f : Nat → Prop} {a b : Nat} (ha : f a) (hb : f b) (h : tp_c f a = tp_c f b) : a = b := by
  rcases Nat.lt_trichotomy a b with z | z | z
  · have := tp_clt z ha; omega
  · exact z
  · have := tp_clt z hb; omega
theorem tp_cc {f g : Nat → Prop} {n : Nat} (h : ∀ i, i < n → (f i ↔ g i)) : tp_c f n = tp_c g n := by
  induction n with
  | zero => rfl
  | succ n ih =>
    have e : f n = g n := propext (h n (by omega))
    rw [tp_cs, tp_cs, ih (fun i hi => h i (by omega)), e]
theorem tp_cbig {f : Nat → Prop} {c : Nat} (h : ∀ i, f i → i < c) : ∀ d, tp_c f (c + d) = tp_c f c := by
  intro d
  induction d with
  | zero => rfl
  | succ d ih => rw [← Nat.add_assoc, tp_cf (fun z => by have := h _ z; omega), ih]
theorem tp_cmk {f : Nat → Prop} {c k : Nat} (hc : c ≤ 64) (hk : k ≤ c) : tp_c (tp_m (tp_mk f c)) k = tp_c f k := by
  apply tp_cc
  intro i hi
  rw [tp_mkm f i c hc]
  exact ⟨fun h => h.2, fun h => ⟨by omega, h⟩⟩
theorem tp_cmk48 {f : Nat → Prop} {c : Nat} (hc : c ≤ 48) : tp_c (tp_m (tp_mk f c)) 48 = tp_c f c := by
  have h := tp_cbig (f := tp_m (tp_mk f c)) (c := c) (fun i hi => ((tp_mkm f i c (by omega)).mp hi).1) (48 - c)
  rw [show c + (48 - c) = 48 by omega] at h
  rw [h, tp_cmk (by omega) (Nat.le_refl c)]
/-- a count has a least place for each number below it -/
theorem tp_cex (f : Nat → Prop) : ∀ n r, r < tp_c f n → ∃ k, k < n ∧ f k ∧ tp_c f k = r := by
  intro n
  induction n with
  | zero => intro r h; exact absurd h (Nat.not_lt_zero r)
  | succ n ih =>
    intro r h
    by_cases hf : f n
    · rw [tp_ct hf] at h
      by_cases e : r = tp_c f n
      · exact ⟨n, by omega, hf, e.symm⟩
      · obtain ⟨k, a, b⟩ := ih r (by omega)
        exact ⟨k, by omega, b⟩
    · rw [tp_cf hf] at h
      obtain ⟨k, a, b⟩ := ih r h
      exact ⟨k, by omega, b⟩
theorem tp_m1ne {a : Nat} (h : a < 2 ^ 31) : ¬ (-1 : Int32) = nI a := fun z => nI_pos h (by rw [← z]; decide)
end
section
/-! the tree: parents P below, ends E nested -/
def tp_T (c : Nat) (P E : Nat → Nat) : Prop :=
  (∀ j, 0 < j → j < c → P j < j) ∧ (∀ j, j < c → j < E j ∧ E j ≤ c) ∧ (∀ j, 0 < j → j < c → E j ≤ E (P j)) ∧ (∀ j m, j < c → j < m → m < E j → j ≤ P m)
section
variable {c : Nat} {P E : Nat → Nat}
theorem tp_nest (T : tp_T c P E) {j : Nat} (hj : j < c) : ∀ q, j ≤ q → q < E j → E q ≤ E j := by
  intro q
  induction q using Nat.strongRecOn with
  | ind q ih =>
    intro h1 h2
    by_cases e : q = j
    · rw [e]; exact Nat.le_refl _
    · have hq : q < c := by have := (T.2.1 j hj).2; omega
      have a := T.2.2.2 j q hj (by omega) h2
      have b := T.1 q (by omega) hq
      have d := T.2.2.1 q (by omega) hq
      have := ih (P q) b a (by omega)
      omega
theorem tp_up (T : tp_T c P E) {a m : Nat} (ha : a < c) (h0 : 0 < m) (hm : m < c) : (a < m ∧ m < E a) ↔ (a ≤ P m ∧ P m < E a) := by
  have b := T.1 m h0 hm
  constructor
  · rintro ⟨h1, h2⟩
    exact ⟨T.2.2.2 a m ha h1 h2, by omega⟩
  · rintro ⟨h1, h2⟩
    have := tp_nest T ha (P m) h1 h2
    have d := T.2.2.1 m h0 hm
    have := (T.2.1 m hm).1
    omega
theorem tp_sib (T : tp_T c P E) {a p : Nat} (h0 : 0 < a) (ha : a < c) (hp : P a = p) (h : E a < E p) : P (E a) = p := by
  have b := T.1 a h0 ha
  have hpc : p < c := by omega
  have hE := (T.2.1 p hpc).2
  have hEa := (T.2.1 a ha).1
  have h1 := T.2.2.2 p (E a) hpc (by omega) h
  have h2 := T.1 (E a) (by omega) (by omega)
  apply Classical.byContradiction
  intro hn
  by_cases z : a ≤ P (E a)
  · have := (tp_up T ha (m := E a) (by omega) (by omega)).mpr ⟨z, h2⟩
    omega
  · have hq : P (E a) < c := by omega
    have h3 := (T.2.1 (E a) (by omega)).1
    have h4 := T.2.2.1 (E a) (by omega) (by omega)
    have := T.2.2.2 (P (E a)) a hq (by omega) (by omega)
    omega
/-- inside a child's stretch no node has the child's parent -/
theorem tp_in (T : tp_T c P E) {a p i : Nat} (h0 : 0 < a) (ha : a < c) (hp : P a = p) (h1 : a < i) (h2 : i < E a) : P i ≠ p := by
  have b := T.1 a h0 ha
  have := T.2.2.2 a i ha h1 h2
  omega
/-- whether an axis leads from n to m, for m below the count -/
def tp_L (P E : Nat → Nat) (n m : Nat) : Nat → Prop
  | 0 => m = n
  | 1 => 0 < m ∧ P m = n
  | 2 => 0 < n ∧ P n = m
  | 3 => n < m ∧ m < E n
  | 4 => m < n ∧ n < E m
  | 5 => 0 < n ∧ 0 < m ∧ P n = P m ∧ n < m
  | 6 => 0 < n ∧ 0 < m ∧ P n = P m ∧ m < n
  | 7 => E n ≤ m
  | 8 => E m ≤ n
  | 9 => n ≤ m ∧ m < E n
  | _ => m ≤ n ∧ n < E m
/-- a new last node below o -/
def tp_P1 (c o : Nat) (P : Nat → Nat) : Nat → Nat := fun j => if j = c then o else P j
def tp_E1 (c o : Nat) (E : Nat → Nat) : Nat → Nat := fun j => if j = c then c + 1 else if j ≤ o ∧ o < E j then c + 1 else E j
theorem tp_new (T : tp_T c P E) {o : Nat} (ho : o < c) (he : E o = c) : tp_T (c + 1) (tp_P1 c o P) (tp_E1 c o E) := by
  have hch : ∀ j, j < c → j ≤ o → o < E j → E j = c := by
    intro j hj h1 h2
    have := tp_nest T hj o h1 h2
    have := (T.2.1 j hj).2
    omega
  have e1 : ∀ j, j < c → tp_E1 c o E j = if j ≤ o ∧ o < E j then c + 1 else E j := by
    intro j hj
    unfold tp_E1
    rw [if_neg (by omega)]
  have p1 : ∀ j, j < c → tp_P1 c o P j = P j := by
    intro j hj
    unfold tp_P1
    rw [if_neg (by omega)]
  have ec : tp_E1 c o E c = c + 1 := by unfold tp_E1; rw [if_pos rfl]
  have pc : tp_P1 c o P c = o := by unfold tp_P1; rw [if_pos rfl]
  have eo : tp_E1 c o E o = c + 1 := by rw [e1 o ho, if_pos ⟨Nat.le_refl o, by omega⟩]
  refine ⟨?_, ?_, ?_, ?_⟩
  · intro j h0 hj
    by_cases z : j = c
    · rw [z, pc]; exact ho
    · rw [p1 j (by omega)]; exact T.1 j h0 (by omega)
  · intro j hj
    by_cases z : j = c
    · rw [z, ec]; omega
    · rw [e1 j (by omega)]
      have := T.2.1 j (by omega)
      split <;> omega
  · intro j h0 hj
    by_cases z : j = c
    · rw [z, ec, pc, eo]; exact Nat.le_refl _
    · have hj : j < c := by omega
      have hp := T.1 j h0 hj
      have hpe := T.2.2.1 j h0 hj
      rw [p1 j hj, e1 j hj, e1 (P j) (by omega)]
      have a1 := T.2.1 j hj
      by_cases k1 : j ≤ o ∧ o < E j
      · rw [if_pos k1, if_pos ⟨by omega, by omega⟩]; exact Nat.le_refl _
      · rw [if_neg k1]
        split <;> omega
  · intro j m hj h1 h2
    by_cases z : j = c
    · rw [z, ec] at h2; omega
    · have hj : j < c := by omega
      rw [e1 j hj] at h2
      have a1 := T.2.1 j hj
      by_cases zm : m = c
      · rw [zm, pc]
        by_cases k1 : j ≤ o ∧ o < E j
        · exact k1.1
        · rw [if_neg k1] at h2; omega
      · by_cases k1 : j ≤ o ∧ o < E j
        · have := hch j hj k1.1 k1.2
          rw [if_pos k1] at h2
          rw [p1 m (by omega)]
          exact T.2.2.2 j m hj h1 (by omega)
        · rw [if_neg k1] at h2
          rw [p1 m (by omega)]
          exact T.2.2.2 j m hj h1 h2
/-- without the nodes d up to e -/
def tp_ps (e g x : Nat) : Nat := if x < e then x else x - g
def tp_sg (d g x : Nat) : Nat := if x < d then x else x + g
theorem tp_del (T : tp_T c P E) {d e g : Nat} (h0 : 0 < d) (hd : d < c) (he : E d = e) (hg : g = e - d) {P' E' : Nat → Nat}
    (hP : ∀ j, 0 < j → j < c - g → P' j = tp_ps e g (P (tp_sg d g j))) (hE : ∀ j, j < c - g → E' j = tp_ps e g (E (tp_sg d g j))) : tp_T (c - g) P' E' := by
  have hde := T.2.1 d hd
  have sp : ∀ x, x ≤ d ∨ e ≤ x → (x ≤ d → tp_ps e g x = x) ∧ (e ≤ x → tp_ps e g x = x - g) := by
    intro x hx
    unfold tp_ps
    constructor
    · intro h; rw [if_pos (by omega)]
    · intro h; rw [if_neg (by omega)]
  have ss : ∀ x, (x < d → tp_sg d g x = x) ∧ (d ≤ x → tp_sg d g x = x + g) := by
    intro x
    unfold tp_sg
    exact ⟨fun h => if_pos h, fun h => if_neg (by omega)⟩
  -- a surviving node's parent survives
  have kp : ∀ j, 0 < j → j < c → (j < d ∨ e ≤ j) → P j < d ∨ e ≤ P j := by
    intro j j0 jc hj
    have := T.1 j j0 jc
    rcases hj with h | h
    · omega
    · by_cases z : d ≤ P j
      · by_cases y : P j < e
        · have := (tp_up T hd j0 jc).mpr ⟨z, by omega⟩
          omega
        · omega
      · omega
  -- a surviving node's end
  have ke : ∀ j, j < c → (j < d ∨ e ≤ j) → E j ≤ d ∨ e ≤ E j := by
    intro j jc hj
    have := T.2.1 j jc
    rcases hj with h | h
    · by_cases z : d < E j
      · have := tp_nest T jc d (by omega) z
        omega
      · omega
    · omega
  have sv : ∀ j, j < c - g → tp_sg d g j < c ∧ (tp_sg d g j < d ∨ e ≤ tp_sg d g j) := by
    intro j hj
    have := ss j
    by_cases z : j < d
    · rw [this.1 z]; omega
    · rw [this.2 (by omega)]; omega
  have s0 : ∀ j, 0 < j → 0 < tp_sg d g j := by
    intro j hj
    have := ss j
    by_cases z : j < d
    · rw [this.1 z]; omega
    · rw [this.2 (by omega)]; omega
  refine ⟨?_, ?_, ?_, ?_⟩
  · intro j j0 jc
    rw [hP j j0 jc]
    obtain ⟨a, b⟩ := sv j jc
    have z0 := s0 j j0
    have k := kp _ z0 a b
    have t := T.1 _ z0 a
    have s1 := ss j
    have s2 := sp (P (tp_sg d g j)) (by omega)
    by_cases y : j < d
    · have := s1.1 y
      have := s2.1 (by omega)
      omega
    · have := s1.2 (by omega)
      by_cases x : P (tp_sg d g j) < d
      · have := s2.1 (by omega); omega
      · have := s2.2 (by omega); omega
  · intro j jc
    rw [hE j jc]
    obtain ⟨a, b⟩ := sv j jc
    have k := ke _ a b
    have t := T.2.1 _ a
    have s1 := ss j
    have s2 := sp (E (tp_sg d g j)) (by omega)
    by_cases y : j < d
    · have := s1.1 y
      by_cases x : E (tp_sg d g j) ≤ d
      · have := s2.1 x; omega
      · have := s2.2 (by omega); omega
    · have := s1.2 (by omega)
      have := s2.2 (by omega)
      omega
  · intro j j0 jc
    obtain ⟨a, b⟩ := sv j jc
    have z0 := s0 j j0
    have k := kp _ z0 a b
    have t := T.1 _ z0 a
    have te := T.2.2.1 _ z0 a
    have s1 := ss j
    have s2 := sp (P (tp_sg d g j)) (by omega)
    have hpj := hP j j0 jc
    -- the new parent stands for the old parent
    have bk : P' j < c - g ∧ tp_sg d g (P' j) = P (tp_sg d g j) := by
      have s3 := ss (P' j)
      by_cases x : P (tp_sg d g j) < d
      · have := s2.1 (by omega)
        have := s3.1 (by omega)
        omega
      · have := s2.2 (by omega)
        have := s3.2 (by omega)
        omega
    rw [hE j jc, hE (P' j) bk.1, bk.2]
    have k1 := ke _ a b
    have pc : P (tp_sg d g j) < c := by omega
    have k2 := ke _ pc k
    have s4 := sp (E (tp_sg d g j)) (by omega)
    have s5 := sp (E (P (tp_sg d g j))) (by omega)
    by_cases x : E (tp_sg d g j) ≤ d
    · have := s4.1 x
      by_cases y : E (P (tp_sg d g j)) ≤ d
      · have := s5.1 y; omega
      · have := s5.2 (by omega); omega
    · have := s4.2 (by omega)
      have := s5.2 (by omega)
      omega
  · intro j m jc h1 h2
    rw [hE j jc] at h2
    obtain ⟨a, b⟩ := sv j jc
    have k1 := ke _ a b
    have tE := T.2.1 _ a
    have s4 := sp (E (tp_sg d g j)) (by omega)
    have s1 := ss j
    have sm := ss m
    have mc : m < c - g := by
      by_cases x : E (tp_sg d g j) ≤ d
      · have := s4.1 x; omega
      · have := s4.2 (by omega); omega
    have m1 : tp_sg d g j < tp_sg d g m ∧ tp_sg d g m < E (tp_sg d g j) := by
      by_cases x : E (tp_sg d g j) ≤ d
      · have := s4.1 x
        have := sm.1 (by omega)
        have := s1.1 (by omega)
        omega
      · have := s4.2 (by omega)
        by_cases y : m < d
        · have := sm.1 y
          have := s1.1 (by omega)
          omega
        · have := sm.2 (by omega)
          by_cases w : j < d
          · have := s1.1 w; omega
          · have := s1.2 (by omega); omega
    have t := T.2.2.2 _ _ a m1.1 m1.2
    rw [hP m (by omega) mc]
    obtain ⟨am, bm⟩ := sv m mc
    have z0 := s0 m (by omega)
    have k := kp _ z0 am bm
    have s2 := sp (P (tp_sg d g m)) (by omega)
    by_cases y : j < d
    · have := s1.1 y
      by_cases x : P (tp_sg d g m) < d
      · have := s2.1 (by omega); omega
      · have := s2.2 (by omega); omega
    · have := s1.2 (by omega)
      have := s2.2 (by omega)
      omega
end
end
section
/-! the arrays hold the tree; X's walks from one node -/
def tp_A (c : Nat) (P E : Nat → Nat) (pa en : Nat → Int32) : Prop :=
  tp_T c P E ∧ 0 < c ∧ c ≤ 48 ∧ pa 0 = -1 ∧ (∀ j, 0 < j → j < c → pa j = nI (P j)) ∧ (∀ j, j < c → en j = nI (E j))
theorem tp_Xsz_lp {post : Int32 → Prop} {w : Int64} (hp : post (nI (tp_c (tp_m w) 48))) : ∀ n i, i ≤ 48 → 48 - i < n → wX_size_4 post w n (nI (tp_c (tp_m w) i)) (nI i) := by
  intro n
  induction n with
  | zero => intro i _ h; exact absurd h (Nat.not_lt_zero _)
  | succ n ih =>
    intro i hi hn
    refine pk_le 48 i (fun h => ?_) (fun h => ?_)
    · have e : i = 48 := by omega
      rw [e]; exact hp
    · refine nm_r (e' := nI (tp_c (tp_m w) (i + 1))) ?_ (nm_r (nI_1 i) (ih (i + 1) (by omega) (by omega)))
      rw [tp_iX w (by omega), nI_add]
      rfl
theorem tp_Xsz {post : Int32 → Prop} {w : Int64} (hp : post (nI (tp_c (tp_m w) 48))) : wpX_size post w :=
  Exists.intro 49 (tp_Xsz_lp hp 49 0 (by omega) (by omega))
theorem tp_Xrk_lp {post : Int32 → Prop} {w : Int64} {r : Nat} (hr : r < 2 ^ 31) (h1 : ∀ k, k < 48 → tp_m w k → tp_c (tp_m w) k = r → post (nI k)) (h0 : (∀ k, k < 48 → tp_m w k → tp_c (tp_m w) k ≠ r) → post (-1)) :
    ∀ n i, i ≤ 48 → 48 - i < n → tp_c (tp_m w) i ≤ r → wX_ranked_5 post w n (nI (r - tp_c (tp_m w) i)) (nI i) := by
  intro n
  induction n with
  | zero => intro i _ h; exact absurd h (Nat.not_lt_zero _)
  | succ n ih =>
    intro i hi hn hc
    refine pk_le 48 i (fun h => ?_) (fun h => ?_)
    · have e : i = 48 := by omega
      refine h0 (fun k hk hm hz => ?_)
      have := tp_clt (f := tp_m w) (a := k) (b := i) (by omega) hm
      omega
    · refine tp_brX (by omega) (fun hm => ?_) (fun hm => ?_)
      · refine nm_r (nI_1 i) ?_
        have e := tp_cf (f := tp_m w) hm
        have := ih (i + 1) (by omega) (by omega) (by omega)
        rw [e] at this
        exact this
      · have e := tp_ct (f := tp_m w) hm
        refine pk_eq (r - tp_c (tp_m w) i) 0 (fun hz => ?_) (fun hz => ?_)
        · exact h1 i h hm (by omega)
        · refine nm_r (e' := nI (r - tp_c (tp_m w) (i + 1))) ?_ (nm_r (nI_1 i) (ih (i + 1) (by omega) (by omega) (by omega)))
          rw [show r - tp_c (tp_m w) i = (r - tp_c (tp_m w) (i + 1)) + 1 by omega, pk_m1]
theorem tp_Xrk {post : Int32 → Prop} {w : Int64} {r : Nat} (hr : r < 2 ^ 31) (h1 : ∀ k, k < 48 → tp_m w k → tp_c (tp_m w) k = r → post (nI k)) (h0 : (∀ k, k < 48 → tp_m w k → tp_c (tp_m w) k ≠ r) → post (-1)) : wpX_ranked post w (nI r) :=
  Exists.intro 49 (tp_Xrk_lp hr h1 h0 49 0 (by omega) (by omega) (Nat.zero_le r))
theorem tp_Xst {post : Int64 → Prop} {a b c : Nat} {f : Nat → Prop} (ha : a ≤ 48) (hb : b ≤ c) (hc : c ≤ 48) (hf : ∀ m, m < c → (f m ↔ a ≤ m ∧ m < b)) (h : post (tp_mk f c)) : wpX_stretch post (nI a) (nI b) := by
  refine pk_lt a b (fun z => ?_) (fun z => ?_)
  · have e : (((1 : Int64) <<< ((nI b).toInt64 &&& 63)) - 1) &&& ((((1 : Int64) <<< ((nI a).toInt64 &&& 63)) - 1) ^^^ (-1)) = tp_mk f c := by
      apply tp_mke (by omega)
      intro i hi
      rw [tp_and, tp_not _ hi, tp_mask (by omega) hi, tp_mask (by omega) hi]
      constructor
      · rintro ⟨h1, h2⟩; exact ⟨by omega, (hf i (by omega)).mpr ⟨by omega, h1⟩⟩
      · rintro ⟨h1, h2⟩
        have := (hf i h1).mp h2
        exact ⟨this.2, by omega⟩
    rw [e]; exact h
  · have e : tp_mk f c = 0 := tp_mk0 (by omega) (fun i hi hh => by have := (hf i hi).mp hh; omega)
    rw [e] at h; exact h
/-- whether a node passes a test -/
def tp_Q (nm : Nat → Int32) (t m : Nat) : Prop := t = 10 ∨ (t = 9 ∧ ¬ nm m = 8) ∨ nI t = nm m
section
variable {c : Nat} {P E : Nat → Nat} {fo : Int32} {S : Int64} {nm vl pa en : Nat → Int32} {kp : Nat → Int64}
theorem tp_Xpa_lp {post : Int64 → Prop} {t : Nat} (hc : c ≤ 48) (ht : t ≤ 10) (hp : post (tp_mk (tp_Q nm t) c)) :
    ∀ n k, k ≤ c → c - k < n → wX_passing_5 post (nI t) (nI c) fo S nm vl pa en kp n (tp_mk (tp_Q nm t) k) (nI k) := by
  intro n
  induction n with
  | zero => intro i _ h; exact absurd h (Nat.not_lt_zero _)
  | succ n ih =>
    intro k hk hn
    refine pk_le c k (fun h => ?_) (fun h => ?_)
    · have e : k = c := by omega
      rw [e]; exact hp
    · have cl : (nI k).toNatClampNeg = k := nI_clamp (by omega)
      have ib : vp_in (nI k) 48 := vp_in_nI (by omega) (by omega)
      have yes : tp_Q nm t k → wX_passing_49 post (wX_passing_5 post (nI t) (nI c) fo S nm vl pa en kp n) (nI t) (tp_mk (tp_Q nm t) k) (nI k) (nI c) fo S nm vl pa en kp := by
        intro q
        exact br_f (by decide) (nm_r (tp_mkt q) (nm_r (nI_1 k) (ih (k + 1) (by omega) (by omega))))
      have no : ¬ tp_Q nm t k → wX_passing_54 post (wX_passing_5 post (nI t) (nI c) fo S nm vl pa en kp n) (nI t) (tp_mk (tp_Q nm t) k) (nI k) 0 (nI c) fo S nm vl pa en kp := by
        intro q
        exact br_t rfl (nm_r (tp_mkf q) (nm_r (nI_1 k) (ih (k + 1) (by omega) (by omega))))
      have mid : ¬ t = 10 → ¬ (t = 9 ∧ ¬ nm k = 8) → wX_passing_38 post (wX_passing_5 post (nI t) (nI c) fo S nm vl pa en kp n) (nI t) (tp_mk (tp_Q nm t) k) (nI k) (nI c) fo S nm vl pa en kp := by
        intro h10 h9
        refine And.intro ib ?_
        rw [cl]
        refine br_c (fun z => yes (Or.inr (Or.inr z))) (fun z => no ?_)
        rintro (a | a | a)
        · exact h10 a
        · exact h9 a
        · exact z a
      refine pk_eq t 10 (fun z => yes (Or.inl z)) (fun z10 => ?_)
      refine pk_eq t 9 (fun z => ?_) (fun z9 => mid z10 (fun y => z9 y.1))
      refine ⟨ib, ?_⟩
      rw [cl]
      exact br_c (fun y => mid z10 (fun x => x.2 y)) (fun y => yes (Or.inr (Or.inl ⟨z, y⟩)))
theorem tp_Xpa {post : Int64 → Prop} {t : Nat} (hc : c ≤ 48) (ht : t ≤ 10) (hp : post (tp_mk (tp_Q nm t) c)) : wpX_passing post (nI c, fo, S, nm, vl, pa, en, kp) (nI t) :=
  Exists.intro (c + 1) (tp_Xpa_lp hc ht hp (c + 1) 0 (by omega) (by omega))
theorem tp_Xrow_lp {post : Int64 → Prop} (A : tp_A c P E pa en) {p fr ed : Nat} (hf : 0 < fr) (he : ed ≤ c) (hpE : ed ≤ E p)
    (hb : ∀ a, 0 < a → a < ed → P a = p → E a ≤ ed)
    (hp : ∀ w, (∀ i, i < 64 → (tp_m w i ↔ fr ≤ i ∧ i < ed ∧ P i = p)) → post w) :
    ∀ n a s w, ed - a < n → fr + s ≤ a → a ≤ ed → (a < ed → P a = p) → (∀ i, i < 64 → (tp_m w i ↔ fr ≤ i ∧ i < a ∧ P i = p)) →
      wX_row_8 post (nI ed) (nI c) fo S nm vl pa en kp n w (nI a) (nI s) := by
  obtain ⟨T, c0, c48, pa0, hpa, hen⟩ := A
  intro n
  induction n with
  | zero => intro a s w h; exact absurd h (Nat.not_lt_zero _)
  | succ n ih =>
    intro a s w hn hs ha hP hw
    have fin : a = ed → post w := by
      intro e
      rw [e] at hw
      exact hp w hw
    refine pk_le 48 s (fun h => fin (by omega)) (fun h => ?_)
    refine pk_le ed a (fun h => fin (by omega)) (fun h => ?_)
    have hPa := hP h
    have hE := T.2.1 a (by omega)
    refine nm_e ⟨vp_in_nI (by omega) (by omega), ?_⟩
    refine nm_r (e' := nI (E a)) (by rw [nI_clamp (by omega)]; exact hen a (by omega)) ?_
    refine nm_r (nI_1 s) ?_
    have hEd := hb a (by omega) h hPa
    refine ih (E a) (s + 1) _ (by omega) (by omega) hEd (fun z => tp_sib T (by omega) (by omega) hPa (by omega)) ?_
    intro i hi
    rw [tp_or, tp_1 (by omega), hw i hi]
    constructor
    · rintro (⟨h1, h2, h3⟩ | rfl)
      · exact ⟨h1, by omega, h3⟩
      · exact ⟨by omega, by omega, hPa⟩
    · rintro ⟨h1, h2, h3⟩
      rcases Nat.lt_trichotomy i a with z | z | z
      · exact Or.inl ⟨h1, z, h3⟩
      · exact Or.inr z
      · exact absurd h3 (tp_in T (by omega) (by omega) hPa z h2)
theorem tp_Xrow {post : Int64 → Prop} (A : tp_A c P E pa en) {p fr ed : Nat} {f : Nat → Prop} (hf : 0 < fr) (h1 : fr ≤ ed) (he : ed ≤ c) (hpE : ed ≤ E p)
    (hb : ∀ a, 0 < a → a < ed → P a = p → E a ≤ ed) (hs : fr < ed → P fr = p)
    (hff : ∀ m, m < c → (f m ↔ fr ≤ m ∧ m < ed ∧ P m = p)) (hp : post (tp_mk f c)) : wpX_row post (nI c, fo, S, nm, vl, pa, en, kp) (nI fr) (nI ed) := by
  have c48 := A.2.2.1
  refine Exists.intro (ed + 1) (tp_Xrow_lp A hf he hpE hb (fun w hw => ?_) (ed + 1) fr 0 0 (by omega) (by omega) h1 hs (fun i hi => ⟨fun z => absurd z (tp_0 i), fun z => by omega⟩))
  have e : w = tp_mk f c := by
    apply tp_mke (by omega)
    intro i hi
    rw [hw i hi]
    constructor
    · intro z; exact ⟨by omega, (hff i (by omega)).mpr z⟩
    · intro z; exact (hff i z.1).mp z.2
  rw [e]; exact hp
theorem tp_Xab_lp {post : Int64 → Prop} (A : tp_A c P E pa en) :
    ∀ n q s w, q + 1 < n → q < c → q + s ≤ 47 → (∀ w', (∀ i, i < 64 → (tp_m w' i ↔ tp_m w i ∨ (i ≤ q ∧ q < E i))) → post w') →
      wX_above_13 post (nI c) fo S nm vl pa en kp n w (nI q) (nI s) := by
  obtain ⟨T, c0, c48, pa0, hpa, hen⟩ := A
  intro n
  induction n with
  | zero => intro q s w h; exact absurd h (Nat.not_lt_zero _)
  | succ n ih =>
    intro q s w hn hq hs hp
    refine br_f (nI_ge (b := 48) (by omega) (by decide)) ?_
    refine br_f (nI_pos (by omega)) ?_
    refine nm_e ⟨vp_in_nI (by omega) (by omega), ?_⟩
    refine nm_r (e' := pa q) (by rw [nI_clamp (by omega)]) ?_
    refine nm_r (nI_1 s) ?_
    by_cases z : q = 0
    · have fin : post (w ||| ((1 : Int64) <<< ((nI q).toInt64 &&& 63))) := by
        refine hp _ (fun i hi => ?_)
        rw [tp_or, tp_1 (by omega)]
        have := (T.2.1 0 c0).1
        constructor
        · rintro (a | a)
          · exact Or.inl a
          · refine Or.inr ⟨by omega, ?_⟩
            rw [a, z]; exact this
        · rintro (a | a)
          · exact Or.inl a
          · exact Or.inr (by omega)
      have e : pa q = -1 := by rw [z]; exact pa0
      rw [e]
      obtain ⟨n', rfl⟩ : ∃ n', n = n' + 1 := ⟨n - 1, by omega⟩
      exact br_c (fun _ => fin) (fun _ => br_t (by decide) fin)
    · have hP := T.1 q (by omega) hq
      rw [hpa q (by omega) hq]
      refine ih (P q) (s + 1) _ (by omega) (by omega) (by omega) (fun w' hw' => hp w' (fun i hi => ?_))
      rw [hw' i hi, tp_or, tp_1 (by omega)]
      constructor
      · rintro ((a | a) | a)
        · exact Or.inl a
        · right
          rw [a]; exact ⟨Nat.le_refl q, (T.2.1 q hq).1⟩
        · right
          have := (tp_up T (a := i) (by omega) (by omega) hq).mpr a
          omega
      · rintro (a | a)
        · exact Or.inl (Or.inl a)
        · by_cases y : i = q
          · exact Or.inl (Or.inr y)
          · exact Or.inr ((tp_up T (a := i) (by omega) (by omega) hq).mp (by omega))
theorem tp_Xab {post : Int64 → Prop} (A : tp_A c P E pa en) {k : Nat} {f : Nat → Prop} (hk : k < c) (hf : ∀ m, m < c → (f m ↔ m < k ∧ k < E m)) (hp : post (tp_mk f c)) : wpX_above post (nI c, fo, S, nm, vl, pa, en, kp) (nI k) := by
  have A0 := A
  obtain ⟨T, c0, c48, pa0, hpa, hen⟩ := A
  refine And.intro (vp_in_nI (by omega) (by omega)) ?_
  refine nm_r (e' := pa k) (by rw [nI_clamp (by omega)]) ?_
  by_cases z : k = 0
  · have e : tp_mk f c = 0 := tp_mk0 (by omega) (fun i hi hh => by have := (hf i hi).mp hh; omega)
    rw [e] at hp
    rw [z, pa0]
    exact Exists.intro 1 (br_f (by decide) (br_t (by decide) hp))
  · have hP := T.1 k (by omega) hk
    rw [hpa k (by omega) hk]
    refine Exists.intro (P k + 2) (tp_Xab_lp A0 (P k + 2) (P k) 0 0 (by omega) (by omega) (by omega) (fun w hw => ?_))
    have e : w = tp_mk f c := by
      apply tp_mke (by omega)
      intro i hi
      rw [hw i hi]
      constructor
      · rintro (a | a)
        · exact absurd a (tp_0 i)
        · have hi : i < c := by omega
          exact ⟨hi, (hf i hi).mpr ((tp_up T hi (by omega) hk).mpr a)⟩
      · rintro ⟨a, b⟩
        exact Or.inr ((tp_up T a (by omega) hk).mp ((hf i a).mp b))
    rw [e]; exact hp
theorem tp_Xas {post : Int64 → Prop} (A : tp_A c P E pa en) {k ax : Nat} (hk : k < c) (ha : ax = 5 ∨ ax = 6 ∨ ax = 7 ∨ ax = 8) (hp : post (tp_mk (fun m => tp_L P E k m ax) c)) : wpX_aside post (nI c, fo, S, nm, vl, pa, en, kp) (nI ax) (nI k) := by
  have A0 := A
  obtain ⟨T, c0, c48, pa0, hpa, hen⟩ := A
  have ib : vp_in (nI k) 48 := vp_in_nI (by omega) (by omega)
  have cl : (nI k).toNatClampNeg = k := nI_clamp (by omega)
  have hE := T.2.1 k hk
  refine pk_eq ax 7 (fun z => ?_) (fun z7 => ?_)
  · subst z
    refine ⟨ib, ?_⟩
    rw [cl, hen k hk]
    exact tp_Xst (c := c) (by omega) (Nat.le_refl c) c48 (fun m hm => ⟨fun h => ⟨h, hm⟩, fun h => h.1⟩) hp
  refine pk_eq ax 8 (fun z => ?_) (fun z8 => ?_)
  · subst z
    refine tp_Xab A0 (f := fun m => m < k ∧ k < E m) hk (fun m hm => Iff.rfl) ?_
    refine tp_Xst (a := 0) (b := k) (c := c) (f := fun m => m < k) (by omega) (by omega) c48 (fun m hm => ⟨fun h => ⟨Nat.zero_le m, h⟩, fun h => h.2⟩) ?_
    rw [tp_mkan (by omega)]
    have e : tp_mk (fun i => i < k ∧ ¬ (i < k ∧ k < E i)) c = tp_mk (fun m => tp_L P E k m 8) c := by
      apply tp_mkc
      intro i hi
      have := T.2.1 i hi
      show (i < k ∧ ¬ (i < k ∧ k < E i)) ↔ E i ≤ k
      omega
    rw [e]; exact hp
  refine pk_eq k 0 (fun z => ?_) (fun z => ?_)
  · have e : tp_mk (fun m => tp_L P E k m ax) c = 0 := by
      apply tp_mk0 (by omega)
      intro i hi
      rcases ha with h | h | h | h
      · subst h; intro y; exact absurd y.1 (by omega)
      · subst h; intro y; exact absurd y.1 (by omega)
      · exact absurd h z7
      · exact absurd h z8
    rw [e] at hp; exact hp
  have hPk := T.1 k (by omega) hk
  have hEp := T.2.2.1 k (by omega) hk
  have hp48 := T.2.1 (P k) (by omega)
  refine ⟨ib, ?_⟩
  refine nm_r (e' := nI (P k)) (by rw [cl]; exact hpa k (by omega) hk) ?_
  refine pk_eq ax 5 (fun z5 => ?_) (fun z5 => ?_)
  · subst z5
    refine ⟨ib, vp_in_nI (by omega) (by omega), ?_⟩
    rw [cl, nI_clamp (n := P k) (by omega), hen k hk, hen (P k) (by omega)]
    refine tp_Xrow A0 (p := P k) (by omega) hEp hp48.2 (Nat.le_refl _) (fun a a0 a1 a2 => ?_) (fun h => tp_sib T (by omega) hk rfl h) (fun m hm => ?_) hp
    · have := T.2.2.1 a a0 (by omega)
      rw [a2] at this; exact this
    · constructor
      · rintro ⟨y1, y2, y3, y4⟩
        have h1 : E k ≤ m := by
          apply Classical.byContradiction
          intro hn
          exact tp_in T (by omega) hk rfl y4 (by omega) y3.symm
        have h2 := (tp_up T (a := P k) (by omega) y2 hm).mpr ⟨by omega, by omega⟩
        exact ⟨h1, h2.2, y3.symm⟩
      · rintro ⟨y1, y2, y3⟩
        exact ⟨by omega, by omega, y3.symm, by omega⟩
  · have e6 : ax = 6 := by omega
    subst e6
    rw [nI_1 (P k)]
    refine tp_Xrow A0 (p := P k) (by omega) (by omega) (by omega) (by omega) (fun a a0 a1 a2 => ?_) (fun h => ?_) (fun m hm => ?_) hp
    · apply Classical.byContradiction
      intro hn
      exact tp_in T a0 (by omega) a2 a1 (by omega) rfl
    · have y1 := T.2.2.2 (P k) (P k + 1) (by omega) (by omega) (by omega)
      have y2 := T.1 (P k + 1) (by omega) (by omega)
      omega
    · constructor
      · rintro ⟨y1, y2, y3, y4⟩
        have := T.1 m y2 hm
        exact ⟨by omega, y4, y3.symm⟩
      · rintro ⟨y1, y2, y3⟩
        exact ⟨by omega, by omega, y3.symm, y2⟩
theorem tp_Xal {post : Int64 → Prop} (A : tp_A c P E pa en) {k ax : Nat} (hk : k < c) (ha : ax ≤ 10) (hp : post (tp_mk (fun m => tp_L P E k m ax) c)) : wpX_along post (nI c, fo, S, nm, vl, pa, en, kp) (nI ax) (nI k) := by
  have A0 := A
  obtain ⟨T, c0, c48, pa0, hpa, hen⟩ := A
  have ib : vp_in (nI k) 48 := vp_in_nI (by omega) (by omega)
  have cl : (nI k).toNatClampNeg = k := nI_clamp (by omega)
  have hE := T.2.1 k hk
  have one : ∀ q, q < c → (1 : Int64) <<< ((nI q).toInt64 &&& 63) = tp_mk (fun m => m = q) c := by
    intro q hq
    apply tp_mke (by omega)
    intro i hi
    rw [tp_1 (by omega)]
    exact ⟨fun h => ⟨by omega, h⟩, fun h => h.2⟩
  refine pk_eq ax 0 (fun z => ?_) (fun z0 => ?_)
  · subst z
    rw [one k hk]; exact hp
  refine pk_eq ax 1 (fun z => ?_) (fun z1 => ?_)
  · subst z
    refine ⟨ib, ?_⟩
    rw [cl, hen k hk, nI_1 k]
    refine tp_Xrow A0 (p := k) (by omega) (by omega) hE.2 (Nat.le_refl _) (fun a a0 a1 a2 => ?_) (fun h => ?_) (fun m hm => ?_) hp
    · have := T.2.2.1 a a0 (by omega)
      rw [a2] at this; exact this
    · have y1 := T.2.2.2 k (k + 1) hk (by omega) h
      have y2 := T.1 (k + 1) (by omega) (by omega)
      omega
    · constructor
      · rintro ⟨y1, y2⟩
        have h1 := T.1 m y1 hm
        have h2 := (tp_up T (a := k) hk y1 hm).mpr ⟨by omega, by omega⟩
        exact ⟨by omega, h2.2, y2⟩
      · rintro ⟨y1, y2, y3⟩
        exact ⟨by omega, y3⟩
  refine pk_eq ax 2 (fun z => ?_) (fun z2 => ?_)
  · subst z
    refine pk_eq k 0 (fun z => ?_) (fun z => ?_)
    · have e : tp_mk (fun m => tp_L P E k m 2) c = 0 := by
        apply tp_mk0 (by omega)
        intro i hi y
        exact absurd y.1 (by omega)
      rw [e] at hp; exact hp
    · refine ⟨ib, ?_⟩
      have hPk := T.1 k (by omega) hk
      rw [cl, hpa k (by omega) hk, one (P k) (by omega)]
      have e : tp_mk (fun m => m = P k) c = tp_mk (fun m => tp_L P E k m 2) c := by
        apply tp_mkc
        intro i hi
        exact ⟨fun h => ⟨by omega, h.symm⟩, fun h => h.2.symm⟩
      rw [e]; exact hp
  have m39 : ∀ a, (∀ m, m < c → (tp_L P E k m ax ↔ a ≤ m ∧ m < E k)) → a ≤ 48 → wX_along_72 post (nI k) (nI a) (nI c) fo S nm vl pa en kp := by
    intro a h1 h2
    refine And.intro ib ?_
    rw [cl, hen k hk]
    exact tp_Xst (c := c) h2 hE.2 c48 h1 hp
  refine pk_eq ax 3 (fun z => ?_) (fun z3 => ?_)
  · subst z
    refine br_t rfl ?_
    rw [nI_1 k]
    exact m39 (k + 1) (fun m hm => by show (k < m ∧ m < E k) ↔ _; omega) (by omega)
  refine pk_eq ax 9 (fun z => ?_) (fun z9 => ?_)
  · subst z
    refine br_f (by decide) ?_
    exact m39 k (fun m hm => Iff.rfl) (by omega)
  refine pk_eq ax 4 (fun z => ?_) (fun z4 => ?_)
  · subst z
    refine tp_Xab A0 (f := fun m => tp_L P E k m 4) hk (fun m hm => Iff.rfl) ?_
    exact br_t rfl hp
  refine pk_eq ax 10 (fun z => ?_) (fun z10 => ?_)
  · subst z
    refine tp_Xab A0 (f := fun m => m < k ∧ k < E m) hk (fun m hm => Iff.rfl) ?_
    refine br_f (by decide) ?_
    rw [one k hk, tp_mkor (by omega)]
    have e : tp_mk (fun i => (i < k ∧ k < E i) ∨ i = k) c = tp_mk (fun m => tp_L P E k m 10) c := by
      apply tp_mkc
      intro i hi
      have := T.2.1 i hi
      show ((i < k ∧ k < E i) ∨ i = k) ↔ (i ≤ k ∧ k < E i)
      constructor
      · rintro (h | rfl) <;> omega
      · intro h
        by_cases y : i = k
        · exact Or.inr y
        · exact Or.inl (by omega)
    rw [e]; exact hp
  exact tp_Xas A0 hk (by omega) hp
end
end
section
/-! X's walks from the whole set -/
def tp_U (P E : Nat → Nat) (S : Int64) (ax m : Nat) : Prop := ∃ s, tp_m S s ∧ tp_L P E s m ax
/-- hidden from omega -/
def tp_hc (S : Int64) (E : Nat → Nat) (k v : Nat) : Prop := v = 0 ∨ ∃ s, s < k ∧ tp_m S s ∧ v = E s
def tp_hl (S : Int64) (E : Nat → Nat) (c v : Nat) : Prop := v = c ∨ ∃ s, tp_m S s ∧ v = E s
section
variable {c : Nat} {P E : Nat → Nat} {fo : Int32} {S : Int64} {nm vl pa en : Nat → Int32} {kp : Nat → Int64}
theorem tp_Xbl_lp {post : Int64 → Prop} (A : tp_A c P E pa en) {b : Nat → Prop} (hp : post (tp_mk (fun m => b m ∨ ∃ s, s < c ∧ tp_m S s ∧ s < m ∧ m < E s) c)) :
    ∀ n k v, k ≤ c → c - k < n → v ≤ 48 → tp_hc S E k v →
      wX_allBelow_19 post (nI c) fo S nm vl pa en kp n (tp_mk (fun m => b m ∨ ∃ s, s < k ∧ tp_m S s ∧ s < m ∧ m < E s) c) (nI v) (nI k) := by
  obtain ⟨T, c0, c48, pa0, hpa, hen⟩ := A
  intro n
  induction n with
  | zero => intro k v _ h; exact absurd h (Nat.not_lt_zero _)
  | succ n ih =>
    intro k v hk hn hv hs
    refine pk_le c k (fun h => ?_) (fun h => ?_)
    · have e : k = c := by omega
      rw [e]; exact hp
    have ib : vp_in (nI k) 48 := vp_in_nI (by omega) (by omega)
    have cl : (nI k).toNatClampNeg = k := nI_clamp (by omega)
    have hE := T.2.1 k h
    have hs' : tp_hc S E (k + 1) v := by
      rcases hs with z | ⟨s, z1, z2⟩
      · exact Or.inl z
      · exact Or.inr ⟨s, by omega, z2⟩
    have up : ∀ m, (b m ∨ ∃ s, s < k ∧ tp_m S s ∧ s < m ∧ m < E s) → (b m ∨ ∃ s, s < k + 1 ∧ tp_m S s ∧ s < m ∧ m < E s) := by
      rintro m (z | ⟨s, z1, z2⟩)
      · exact Or.inl z
      · exact Or.inr ⟨s, by omega, z2⟩
    refine tp_brX (by omega) (fun hm => ?_) (fun hm => ?_)
    · refine nm_r (nI_1 k) ?_
      have e : tp_mk (fun m => b m ∨ ∃ s, s < k ∧ tp_m S s ∧ s < m ∧ m < E s) c = tp_mk (fun m => b m ∨ ∃ s, s < k + 1 ∧ tp_m S s ∧ s < m ∧ m < E s) c := by
        apply tp_mkc
        intro m _
        refine ⟨up m, ?_⟩
        rintro (z | ⟨s, z1, z2, z3⟩)
        · exact Or.inl z
        · by_cases y : s = k
          · rw [y] at z2; exact absurd z2 hm
          · exact Or.inr ⟨s, by omega, z2, z3⟩
      rw [e]
      exact ih (k + 1) v (by omega) (by omega) hv hs'
    · refine ⟨ib, ?_⟩
      rw [cl, hen k h]
      refine pk_le (E k) v (fun hl => ?_) (fun hl => ?_)
      · refine nm_r (nI_1 k) ?_
        have e : tp_mk (fun m => b m ∨ ∃ s, s < k ∧ tp_m S s ∧ s < m ∧ m < E s) c = tp_mk (fun m => b m ∨ ∃ s, s < k + 1 ∧ tp_m S s ∧ s < m ∧ m < E s) c := by
          apply tp_mkc
          intro m _
          refine ⟨up m, ?_⟩
          rintro (z | ⟨s, z1, z2, z3, z4⟩)
          · exact Or.inl z
          · by_cases y : s = k
            · subst y
              rcases hs with x | ⟨s', x1, x2, x3⟩
              · omega
              · exact Or.inr ⟨s', x1, x2, by omega, by omega⟩
            · exact Or.inr ⟨s, by omega, z2, z3, z4⟩
        rw [e]
        exact ih (k + 1) v (by omega) (by omega) hv hs'
      · refine ⟨ib, ?_⟩
        rw [nI_1 k]
        refine tp_Xst (f := fun m => k < m ∧ m < E k) (c := c) (by omega) hE.2 c48 (fun m _ => by omega) ?_
        refine nm_r (tp_mkor (by omega)) ⟨ib, ?_⟩
        refine nm_r rfl (nm_r rfl ?_)
        have e : tp_mk (fun i => (b i ∨ ∃ s, s < k ∧ tp_m S s ∧ s < i ∧ i < E s) ∨ (k < i ∧ i < E k)) c = tp_mk (fun m => b m ∨ ∃ s, s < k + 1 ∧ tp_m S s ∧ s < m ∧ m < E s) c := by
          apply tp_mkc
          intro m _
          constructor
          · rintro (z | z)
            · exact up m z
            · exact Or.inr ⟨k, by omega, hm, z⟩
          · rintro (z | ⟨s, z1, z2, z3⟩)
            · exact Or.inl (Or.inl z)
            · by_cases y : s = k
              · subst y; exact Or.inr z3
              · exact Or.inl (Or.inr ⟨s, by omega, z2, z3⟩)
        rw [e]
        exact ih (k + 1) (E k) (by omega) (by omega) (by omega) (Or.inr ⟨k, by omega, hm, rfl⟩)
theorem tp_Xbl0 {post : Int64 → Prop} (A : tp_A c P E pa en) (hS : ∀ i, tp_m S i → i < c) (hp : post (tp_mk (tp_U P E S 3) c)) : wpX_allBelow post (nI c, fo, S, nm, vl, pa, en, kp) 0 := by
  have c48 := A.2.2.1
  refine br_t rfl (Exists.intro (c + 1) ?_)
  have e1 : tp_mk (tp_U P E S 3) c = tp_mk (fun m => False ∨ ∃ s, s < c ∧ tp_m S s ∧ s < m ∧ m < E s) c := by
    apply tp_mkc
    intro m _
    constructor
    · rintro ⟨s, z1, z2⟩; exact Or.inr ⟨s, hS s z1, z1, z2⟩
    · rintro (z | ⟨s, z1, z2, z3⟩)
      · exact z.elim
      · exact ⟨s, z2, z3⟩
  have e2 : (0 : Int64) = tp_mk (fun m => False ∨ ∃ s, s < 0 ∧ tp_m S s ∧ s < m ∧ m < E s) c := by
    symm
    apply tp_mk0 (by omega)
    rintro m _ (z | ⟨s, z1, z2⟩)
    · exact z
    · omega
  rw [e1] at hp
  have := tp_Xbl_lp (fo := fo) (nm := nm) (vl := vl) (kp := kp) A hp (c + 1) 0 0 (by omega) (by omega) (by omega) (Or.inl rfl)
  rw [← e2] at this
  exact this
theorem tp_Xbl1 {post : Int64 → Prop} (A : tp_A c P E pa en) (hS : ∀ i, tp_m S i → i < c) (hp : post (tp_mk (tp_U P E S 9) c)) : wpX_allBelow post (nI c, fo, S, nm, vl, pa, en, kp) 1 := by
  have c48 := A.2.2.1
  have T := A.1
  refine br_f (by decide) (Exists.intro (c + 1) ?_)
  have e1 : tp_mk (tp_U P E S 9) c = tp_mk (fun m => tp_m S m ∨ ∃ s, s < c ∧ tp_m S s ∧ s < m ∧ m < E s) c := by
    apply tp_mkc
    intro m hm
    constructor
    · rintro ⟨s, z1, z2, z3⟩
      by_cases y : s = m
      · subst y; exact Or.inl z1
      · exact Or.inr ⟨s, hS s z1, z1, by omega, z3⟩
    · rintro (z | ⟨s, z1, z2, z3, z4⟩)
      · exact ⟨m, z, Nat.le_refl m, (T.2.1 m hm).1⟩
      · exact ⟨s, z2, Nat.le_of_lt z3, z4⟩
  have e2 : S = tp_mk (fun m => tp_m S m ∨ ∃ s, s < 0 ∧ tp_m S s ∧ s < m ∧ m < E s) c := by
    apply tp_mke (by omega)
    intro i _
    constructor
    · intro z; exact ⟨hS i z, Or.inl z⟩
    · rintro ⟨_, z | ⟨s, z1, z2⟩⟩
      · exact z
      · omega
  rw [e1] at hp
  have := tp_Xbl_lp (fo := fo) (nm := nm) (vl := vl) (kp := kp) A hp (c + 1) 0 0 (by omega) (by omega) (by omega) (Or.inl rfl)
  rw [← e2] at this
  exact this
theorem tp_Xav_in {post : Int64 → Prop} {J : Int64 → Int32 → Prop} {x1 : Int32} (A : tp_A c P E pa en) {k : Nat} :
    ∀ n q s w, q + 1 < n → q < c → q + s ≤ 47 → (∀ m, m ≤ q → tp_m w m → ∀ a, a < m → m < E a → tp_m w a) →
      (∀ w', (∀ i, i < 64 → (tp_m w' i ↔ tp_m w i ∨ (i ≤ q ∧ q < E i))) → J w' (nI (k + 1))) →
      wX_allAbove_44 post J x1 (nI k) (nI c) fo S nm vl pa en kp n w (nI q) (nI s) := by
  obtain ⟨T, c0, c48, pa0, hpa, hen⟩ := A
  intro n
  induction n with
  | zero => intro q s w h; exact absurd h (Nat.not_lt_zero _)
  | succ n ih =>
    intro q s w hn hq hs hcl hp
    refine br_f (nI_ge (b := 48) (by omega) (by decide)) ?_
    refine br_f (nI_pos (by omega)) ?_
    refine tp_brX (by omega) (fun hm => ?_) (fun hm => ?_)
    · refine nm_e ⟨vp_in_nI (by omega) (by omega), ?_⟩
      refine nm_r (e' := pa q) (by rw [nI_clamp (by omega)]) ?_
      refine nm_r (nI_1 s) ?_
      by_cases z : q = 0
      · have fin : J (w ||| ((1 : Int64) <<< ((nI q).toInt64 &&& 63))) (nI (k + 1)) := by
          refine hp _ (fun i hi => ?_)
          rw [tp_or, tp_1 (by omega)]
          have := (T.2.1 0 c0).1
          constructor
          · rintro (a | a)
            · exact Or.inl a
            · refine Or.inr ⟨by omega, ?_⟩
              rw [a, z]; exact this
          · rintro (a | a)
            · exact Or.inl a
            · exact Or.inr (by omega)
        have e : pa q = -1 := by rw [z]; exact pa0
        rw [e]
        obtain ⟨n', rfl⟩ : ∃ n', n = n' + 1 := ⟨n - 1, by omega⟩
        exact br_c (fun _ => nm_r (nI_1 k) fin) (fun _ => br_t (by decide) (nm_r (nI_1 k) fin))
      · have hP := T.1 q (by omega) hq
        rw [hpa q (by omega) hq]
        refine ih (P q) (s + 1) _ (by omega) (by omega) (by omega) (fun m h1 h2 a h3 h4 => ?_) (fun w' hw' => hp w' (fun i hi => ?_))
        · rw [tp_or, tp_1 (by omega)] at h2 ⊢
          rcases h2 with h2 | h2
          · exact Or.inl (hcl m (by omega) h2 a h3 h4)
          · omega
        · rw [hw' i hi, tp_or, tp_1 (by omega)]
          constructor
          · rintro ((a | a) | a)
            · exact Or.inl a
            · right
              rw [a]; exact ⟨Nat.le_refl q, (T.2.1 q hq).1⟩
            · right
              have := (tp_up T (a := i) (by omega) (by omega) hq).mpr a
              omega
          · rintro (a | a)
            · exact Or.inl (Or.inl a)
            · by_cases y : i = q
              · exact Or.inl (Or.inr y)
              · exact Or.inr ((tp_up T (a := i) (by omega) (by omega) hq).mp (by omega))
    · refine nm_r (nI_1 k) (hp w (fun i hi => ⟨Or.inl, ?_⟩))
      rintro (a | ⟨a, b⟩)
      · exact a
      · by_cases y : i = q
        · rw [y]; exact hm
        · exact hcl q (Nat.le_refl q) hm i (by omega) b
theorem tp_Xav_lp {post : Int64 → Prop} (A : tp_A c P E pa en) {x1 : Int32}
    (hp : (x1 = 0 → post (tp_mk (fun m => ∃ s, s < c ∧ tp_m S s ∧ m < s ∧ s < E m) c)) ∧ (¬ x1 = 0 → post (tp_mk (fun m => ∃ s, s < c ∧ tp_m S s ∧ m < s ∧ s < E m) c ||| S))) :
    ∀ n k, k ≤ c → c - k < n → wX_allAbove_5 post x1 (nI c) fo S nm vl pa en kp n (tp_mk (fun m => ∃ s, s < k ∧ tp_m S s ∧ m < s ∧ s < E m) c) (nI k) := by
  have A0 := A
  obtain ⟨T, c0, c48, pa0, hpa, hen⟩ := A
  intro n
  induction n with
  | zero => intro k _ h; exact absurd h (Nat.not_lt_zero _)
  | succ n ih =>
    intro k hk hn
    refine pk_le c k (fun h => ?_) (fun h => ?_)
    · have e : k = c := by omega
      rw [e]; exact hp
    have nx := ih (k + 1) (by omega) (by omega)
    refine tp_brX (by omega) (fun hm => ?_) (fun hm => ?_)
    · have e : tp_mk (fun m => ∃ s, s < k ∧ tp_m S s ∧ m < s ∧ s < E m) c = tp_mk (fun m => ∃ s, s < k + 1 ∧ tp_m S s ∧ m < s ∧ s < E m) c := by
        apply tp_mkc
        intro m _
        constructor
        · rintro ⟨s, z1, z2⟩; exact ⟨s, by omega, z2⟩
        · rintro ⟨s, z1, z2, z3⟩
          by_cases y : s = k
          · rw [y] at z2; exact absurd z2 hm
          · exact ⟨s, by omega, z2, z3⟩
      rw [e]
      exact Exists.intro 1 (br_f (by decide) (br_t (by decide) (nm_r (nI_1 k) nx)))
    · refine ⟨vp_in_nI (by omega) (by omega), ?_⟩
      refine nm_r (e' := pa k) (by rw [nI_clamp (by omega)]) ?_
      by_cases z : k = 0
      · have e : tp_mk (fun m => ∃ s, s < k ∧ tp_m S s ∧ m < s ∧ s < E m) c = tp_mk (fun m => ∃ s, s < k + 1 ∧ tp_m S s ∧ m < s ∧ s < E m) c := by
          apply tp_mkc
          intro m _
          constructor
          · rintro ⟨s, z1, z2⟩; exact ⟨s, by omega, z2⟩
          · rintro ⟨s, z1, z2, z3⟩; omega
        have e2 : pa k = -1 := by rw [z]; exact pa0
        rw [e, e2]
        exact Exists.intro 1 (br_f (by decide) (br_t (by decide) (nm_r (nI_1 k) nx)))
      · have hP := T.1 k (by omega) h
        rw [hpa k (by omega) h]
        refine Exists.intro (P k + 2) (tp_Xav_in A0 (P k + 2) (P k) 0 _ (by omega) (by omega) (by omega) (fun m h1 h2 a h3 h4 => ?_) (fun w' hw' => ?_))
        · rw [tp_mkm _ _ c (by omega)] at h2 ⊢
          obtain ⟨h5, s, s1, s2, s3, s4⟩ := h2
          have := tp_nest T (j := a) (by omega) m (by omega) h4
          exact ⟨by omega, s, s1, s2, by omega, by omega⟩
        · have e : w' = tp_mk (fun m => ∃ s, s < k + 1 ∧ tp_m S s ∧ m < s ∧ s < E m) c := by
            apply tp_mke (by omega)
            intro i hi
            rw [hw' i hi, tp_mkm _ _ c (by omega)]
            constructor
            · rintro (⟨a1, s, s1, s2⟩ | a)
              · exact ⟨a1, s, by omega, s2⟩
              · have := (tp_up T (a := i) (by omega) (by omega) h).mpr a
                exact ⟨by omega, k, by omega, hm, this⟩
            · rintro ⟨a1, s, s1, s2, s3⟩
              by_cases y : s = k
              · subst y
                exact Or.inr ((tp_up T a1 (by omega) h).mp s3)
              · exact Or.inl ⟨a1, s, by omega, s2, s3⟩
          rw [e]; exact nx
theorem tp_Xav {post : Int64 → Prop} (A : tp_A c P E pa en) {x1 : Int32}
    (hp : (x1 = 0 → post (tp_mk (fun m => ∃ s, s < c ∧ tp_m S s ∧ m < s ∧ s < E m) c)) ∧ (¬ x1 = 0 → post (tp_mk (fun m => ∃ s, s < c ∧ tp_m S s ∧ m < s ∧ s < E m) c ||| S))) : wpX_allAbove post (nI c, fo, S, nm, vl, pa, en, kp) x1 := by
  have c48 := A.2.2.1
  refine Exists.intro (c + 1) ?_
  have e2 : (0 : Int64) = tp_mk (fun m => ∃ s, s < 0 ∧ tp_m S s ∧ m < s ∧ s < E m) c := by
    symm
    apply tp_mk0 (by omega)
    rintro m _ ⟨s, z1, z2⟩
    omega
  have := tp_Xav_lp (fo := fo) (nm := nm) (vl := vl) (kp := kp) A hp (c + 1) 0 (by omega) (by omega)
  rw [← e2] at this
  exact this
theorem tp_Xav0 {post : Int64 → Prop} (A : tp_A c P E pa en) (hS : ∀ i, tp_m S i → i < c) (hp : post (tp_mk (tp_U P E S 4) c)) : wpX_allAbove post (nI c, fo, S, nm, vl, pa, en, kp) 0 := by
  refine tp_Xav A (br_t rfl ?_)
  have e : tp_mk (fun m => ∃ s, s < c ∧ tp_m S s ∧ m < s ∧ s < E m) c = tp_mk (tp_U P E S 4) c := by
    apply tp_mkc
    intro m _
    exact ⟨fun ⟨s, z1, z2, z3⟩ => ⟨s, z2, z3⟩, fun ⟨s, z1, z2⟩ => ⟨s, hS s z1, z1, z2⟩⟩
  rw [e]; exact hp
theorem tp_Xav1 {post : Int64 → Prop} (A : tp_A c P E pa en) (hS : ∀ i, tp_m S i → i < c) (hp : post (tp_mk (tp_U P E S 10) c)) : wpX_allAbove post (nI c, fo, S, nm, vl, pa, en, kp) 1 := by
  have c48 := A.2.2.1
  have T := A.1
  refine tp_Xav A (br_f (by decide) ?_)
  have e : tp_mk (fun m => ∃ s, s < c ∧ tp_m S s ∧ m < s ∧ s < E m) c ||| S = tp_mk (tp_U P E S 10) c := by
    apply tp_mke (by omega)
    intro i _
    rw [tp_or, tp_mkm _ _ c (by omega)]
    constructor
    · rintro (⟨a, s, z1, z2, z3, z4⟩ | a)
      · exact ⟨a, s, z2, Nat.le_of_lt z3, z4⟩
      · exact ⟨hS i a, i, a, Nat.le_refl i, (T.2.1 i (hS i a)).1⟩
    · rintro ⟨a, s, z1, z2, z3⟩
      by_cases y : i = s
      · subst y; exact Or.inr z1
      · exact Or.inl ⟨a, s, hS s z1, z1, by omega, z3⟩
  rw [e]; exact hp
theorem tp_Xle_lp {post : Int32 → Prop} (A : tp_A c P E pa en) (hS : ∀ i, tp_m S i → i < c) (hp : ∀ v, v ≤ c → (∀ s, tp_m S s → v ≤ E s) → tp_hl S E c v → post (nI v)) :
    ∀ n k v, k ≤ c → c - k < n → v ≤ c → (∀ s, s < k → tp_m S s → v ≤ E s) → tp_hl S E c v →
      wX_leastEnd_7 post (nI c) fo S nm vl pa en kp n (nI v) (nI k) := by
  obtain ⟨T, c0, c48, pa0, hpa, hen⟩ := A
  intro n
  induction n with
  | zero => intro k v _ h; exact absurd h (Nat.not_lt_zero _)
  | succ n ih =>
    intro k v hk hn hv hl hx
    refine pk_le c k (fun h => ?_) (fun h => ?_)
    · exact hp v hv (fun s hs => hl s (by have := hS s hs; omega) hs) hx
    have ib : vp_in (nI k) 48 := vp_in_nI (by omega) (by omega)
    have cl : (nI k).toNatClampNeg = k := nI_clamp (by omega)
    have hE := T.2.1 k h
    have no : (tp_m S k → v ≤ E k) → wX_leastEnd_42 post (wX_leastEnd_7 post (nI c) fo S nm vl pa en kp n) (nI v) (nI k) (nI c) fo S nm vl pa en kp := by
      intro hh
      refine br_t rfl (nm_r (nI_1 k) (ih (k + 1) v (by omega) (by omega) hv (fun s s1 s2 => ?_) hx))
      by_cases y : s = k
      · subst y; exact hh s2
      · exact hl s (by omega) s2
    refine tp_brX (by omega) (fun hm => no (fun z => absurd z hm)) (fun hm => ?_)
    refine ⟨ib, ?_⟩
    rw [cl, hen k h]
    refine pk_le v (E k) (fun z => no (fun _ => z)) (fun z => ?_)
    refine br_f (by decide) ⟨ib, ?_⟩
    rw [cl, hen k h]
    refine nm_e (nm_r (nI_1 k) (ih (k + 1) (E k) (by omega) (by omega) hE.2 (fun s s1 s2 => ?_) (Or.inr ⟨k, hm, rfl⟩)))
    by_cases y : s = k
    · subst y; exact Nat.le_refl _
    · have := hl s (by omega) s2
      omega
theorem tp_Xle {post : Int32 → Prop} (A : tp_A c P E pa en) (hS : ∀ i, tp_m S i → i < c) (hp : ∀ v, v ≤ c → (∀ s, tp_m S s → v ≤ E s) → tp_hl S E c v → post (nI v)) : wpX_leastEnd post (nI c, fo, S, nm, vl, pa, en, kp) :=
  Exists.intro (c + 1) (tp_Xle_lp A hS hp (c + 1) 0 c (by omega) (by omega) (Nat.le_refl c) (fun s h => absurd h (Nat.not_lt_zero s)) (Or.inl rfl))
theorem tp_Xgn_lp {post : Int64 → Prop} (A : tp_A c P E pa en) {ax : Nat} (hx : ax ≤ 10) (hp : post (tp_mk (fun m => ∃ s, s < c ∧ tp_m S s ∧ tp_L P E s m ax) c)) :
    ∀ n k, k ≤ c → c - k < n → wX_allAlong_123 post (nI ax) (nI c) fo S nm vl pa en kp n (tp_mk (fun m => ∃ s, s < k ∧ tp_m S s ∧ tp_L P E s m ax) c) (nI k) := by
  have c48 := A.2.2.1
  intro n
  induction n with
  | zero => intro k _ h; exact absurd h (Nat.not_lt_zero _)
  | succ n ih =>
    intro k hk hn
    refine pk_le c k (fun h => ?_) (fun h => ?_)
    · have e : k = c := by omega
      rw [e]; exact hp
    have nx := ih (k + 1) (by omega) (by omega)
    refine tp_brX (by omega) (fun hm => ?_) (fun hm => ?_)
    · refine nm_r (e' := tp_mk (fun m => ∃ s, s < k + 1 ∧ tp_m S s ∧ tp_L P E s m ax) c) ?_ (nm_r (nI_1 k) nx)
      rw [tp_or0]
      apply tp_mkc
      intro m _
      constructor
      · rintro ⟨s, z1, z2⟩; exact ⟨s, by omega, z2⟩
      · rintro ⟨s, z1, z2, z3⟩
        by_cases y : s = k
        · rw [y] at z2; exact absurd z2 hm
        · exact ⟨s, by omega, z2, z3⟩
    · refine tp_Xal A h hx ?_
      refine nm_r (e' := tp_mk (fun m => ∃ s, s < k + 1 ∧ tp_m S s ∧ tp_L P E s m ax) c) ?_ (nm_r (nI_1 k) nx)
      rw [tp_mkor (by omega)]
      apply tp_mkc
      intro m _
      constructor
      · rintro (⟨s, z1, z2⟩ | z)
        · exact ⟨s, by omega, z2⟩
        · exact ⟨k, by omega, hm, z⟩
      · rintro ⟨s, z1, z2, z3⟩
        by_cases y : s = k
        · subst y; exact Or.inr z3
        · exact Or.inl ⟨s, by omega, z2, z3⟩
theorem tp_Xaa {post : Int64 → Prop} (A : tp_A c P E pa en) (hS : ∀ i, tp_m S i → i < c) {ax : Nat} (hx : ax ≤ 10) (hp : post (tp_mk (tp_U P E S ax) c)) : wpX_allAlong post (nI c, fo, S, nm, vl, pa, en, kp) (nI ax) := by
  have A0 := A
  obtain ⟨T, c0, c48, pa0, hpa, hen⟩ := A
  by_cases hz : S = 0
  · refine br_t hz ?_
    have e : tp_mk (tp_U P E S ax) c = 0 := by
      apply tp_mk0 (by omega)
      rintro m _ ⟨s, z1, z2⟩
      rw [hz] at z1
      exact tp_0 s z1
    rw [e] at hp; exact hp
  refine br_f hz ?_
  have hne : ∃ i, tp_m S i := by
    apply Classical.byContradiction
    intro hn
    apply hz
    apply tp_ext
    intro i _
    exact ⟨fun z => absurd ⟨i, z⟩ hn, fun z => absurd z (tp_0 i)⟩
  refine pk_eq ax 3 (fun z => ?_) (fun z3 => ?_)
  · subst z
    exact br_f (by decide) (tp_Xbl0 A0 hS hp)
  refine pk_eq ax 9 (fun z => ?_) (fun z9 => ?_)
  · subst z
    exact br_t rfl (tp_Xbl1 A0 hS hp)
  refine pk_eq ax 4 (fun z => ?_) (fun z4 => ?_)
  · subst z
    exact br_f (by decide) (tp_Xav0 A0 hS hp)
  refine pk_eq ax 10 (fun z => ?_) (fun z10 => ?_)
  · subst z
    exact br_t rfl (tp_Xav1 A0 hS hp)
  refine pk_eq ax 7 (fun z => ?_) (fun z7 => ?_)
  · subst z
    refine tp_Xle A0 hS (fun v hv h1 h2 => ?_)
    refine tp_Xst (c := c) (f := tp_U P E S 7) (by omega) (Nat.le_refl c) c48 (fun m hm => ?_) hp
    constructor
    · rintro ⟨s, y1, y2⟩
      have := h1 s y1
      have y3 : E s ≤ m := y2
      exact ⟨by omega, hm⟩
    · rintro ⟨y1, y2⟩
      rcases h2 with h2 | ⟨s, s1, s2⟩
      · omega
      · exact ⟨s, s1, show E s ≤ m by omega⟩
  refine pk_eq ax 8 (fun z => ?_) (fun z8 => ?_)
  · subst z
    refine tp_Xsz ?_
    obtain ⟨i0, hi0⟩ := hne
    have hpos : tp_c (tp_m S) i0 < tp_c (tp_m S) 48 := tp_clt (by have := hS i0 hi0; omega) hi0
    have hle := tp_cle (tp_m S) 48
    have e1 : nI (tp_c (tp_m S) 48) - 1 = nI (tp_c (tp_m S) 48 - 1) := pk_sub (b := 1) (by omega)
    rw [e1]
    refine tp_Xrk (by omega) (fun k hk hm hc => ?_) (fun hn => ?_)
    · refine tp_Xas A0 (hS k hm) (Or.inr (Or.inr (Or.inr rfl))) ?_
      have e : tp_mk (tp_U P E S 8) c = tp_mk (fun m => tp_L P E k m 8) c := by
        apply tp_mkc
        intro m _
        constructor
        · rintro ⟨s, s1, s2⟩
          have y : E m ≤ s := s2
          have ys : s ≤ k := by
            apply Classical.byContradiction
            intro hn
            have a1 := tp_clt (f := tp_m S) (a := k) (b := s) (by omega) hm
            have a2 := tp_clt (f := tp_m S) (a := s) (b := 48) (by have := hS s s1; omega) s1
            omega
          exact Nat.le_trans y ys
        · intro y; exact ⟨k, hm, y⟩
      rw [e] at hp; exact hp
    · obtain ⟨k, k1, k2, k3⟩ := tp_cex (tp_m S) 48 (tp_c (tp_m S) 48 - 1) (by omega)
      exact absurd k3 (hn k k1 k2)
  refine Exists.intro (c + 1) ?_
  have e1 : tp_mk (tp_U P E S ax) c = tp_mk (fun m => ∃ s, s < c ∧ tp_m S s ∧ tp_L P E s m ax) c := by
    apply tp_mkc
    intro m _
    exact ⟨fun ⟨s, y1, y2⟩ => ⟨s, hS s y1, y1, y2⟩, fun ⟨s, y1, y2, y3⟩ => ⟨s, y2, y3⟩⟩
  have e2 : (0 : Int64) = tp_mk (fun m => ∃ s, s < 0 ∧ tp_m S s ∧ tp_L P E s m ax) c := by
    symm
    apply tp_mk0 (by omega)
    rintro m _ ⟨s, y1, y2⟩
    omega
  rw [e1] at hp
  have := tp_Xgn_lp (fo := fo) (nm := nm) (vl := vl) (kp := kp) A0 hx hp (c + 1) 0 (by omega) (by omega)
  rw [← e2] at this
  exact this
end
end
section
/-! X's places along an axis -/
def tp_ix (dn pl all : Int32) : Int32 := if dn = 0 then (if pl ≤ 0 then all + pl else pl - 1) else (all - 1) - (if pl ≤ 0 then all + pl else pl - 1)
def tp_dn (ax : Nat) : Int32 := if ax = 4 ∨ ax = 6 ∨ ax = 8 ∨ ax = 10 then 1 else 0
/-- along an axis, passing a test -/
def tp_K (P E : Nat → Nat) (nm : Nat → Int32) (ax t s m : Nat) : Prop := tp_L P E s m ax ∧ tp_Q nm t m
/-- of these the one with the place -/
def tp_G (P E : Nat → Nat) (nm : Nat → Int32) (c ax t : Nat) (dn pl : Int32) (s m : Nat) : Prop :=
  tp_K P E nm ax t s m ∧ tp_ix dn pl (nI (tp_c (tp_K P E nm ax t s) c)) = nI (tp_c (tp_K P E nm ax t s) m)
section
variable {c : Nat} {P E : Nat → Nat} {fo : Int32} {S : Int64} {nm vl pa en : Nat → Int32} {kp : Nat → Int64}
theorem tp_X113 {post : Int64 → Prop} {J : Int64 → Int32 → Prop} {x1 x4 x5 ix : Int32} {x2 x6 : Int64} {k : Nat} {K : Nat → Prop} (c48 : c ≤ 48)
    (h : J (x6 ||| tp_mk (fun m => K m ∧ ix = nI (tp_c K m)) c) (nI (k + 1))) :
    wX_placesAlong_113 post J x1 x2 x4 x5 x6 (nI k) (tp_mk K c) (nI (tp_c K c)) ix (nI c) fo S nm vl pa en kp := by
  have hle := tp_cle K c
  have none : (∀ m, m < c → K m → ¬ ix = nI (tp_c K m)) → wX_placesAlong_127 post J x1 x2 x4 x5 x6 (nI k) (nI c) fo S nm vl pa en kp := by
    intro hn
    have e : tp_mk (fun m => K m ∧ ix = nI (tp_c K m)) c = 0 := tp_mk0 (by omega) (fun i hi hh => hn i hi hh.1 hh.2)
    rw [e] at h
    exact br_f (by decide) (nm_e (nm_r (nI_1 k) h))
  by_cases hz : ix < 0
  · refine br_t hz (none (fun m hm _ e => ?_))
    have := tp_cle K m
    rw [e] at hz
    exact nI_pos (by omega) hz
  refine br_f hz ?_
  obtain ⟨r, hr, rfl⟩ := nI_of hz
  refine pk_lt r (tp_c K c) (fun hlt => ?_) (fun hge => none (fun m hm hK e => ?_))
  · refine tp_Xrk hr (fun q hq hm hc => ?_) (fun hn => ?_)
    · rw [tp_mkm _ _ c (by omega)] at hm
      rw [tp_cmk (by omega) (by omega)] at hc
      refine br_t (nI_pos' (by omega)) ?_
      refine nm_r (e' := x6 ||| tp_mk (fun m => K m ∧ nI r = nI (tp_c K m)) c) ?_ (nm_r (nI_1 k) h)
      congr 1
      apply tp_mke (by omega)
      intro i hi
      rw [tp_1 (by omega)]
      constructor
      · rintro rfl
        exact ⟨hm.1, hm.2, by rw [hc]⟩
      · rintro ⟨i1, i2, i3⟩
        have := tp_cle K i
        rw [nI_eq hr (by omega)] at i3
        exact tp_cinj i2 hm.2 (by omega)
    · obtain ⟨q, q1, q2, q3⟩ := tp_cex K c r hlt
      refine absurd ?_ (hn q (by omega) ((tp_mkm _ _ c (by omega)).mpr ⟨q1, q2⟩))
      rw [tp_cmk (by omega) (by omega)]; exact q3
  · have := tp_clt (f := K) (a := m) (b := c) hm hK
    rw [nI_eq hr (by omega)] at e
    omega
theorem tp_Xpl_lp {post : Int64 → Prop} (A : tp_A c P E pa en) {ax t : Nat} {dn pl : Int32} (hx : ax ≤ 10) (hp : post (tp_mk (fun m => ∃ s, s < c ∧ tp_m S s ∧ tp_G P E nm c ax t dn pl s m) c)) :
    ∀ n k, k ≤ c → c - k < n → wX_placesAlong_36 post (nI ax) (tp_mk (tp_Q nm t) c) pl dn (nI c) fo S nm vl pa en kp n (tp_mk (fun m => ∃ s, s < k ∧ tp_m S s ∧ tp_G P E nm c ax t dn pl s m) c) (nI k) := by
  have c48 := A.2.2.1
  intro n
  induction n with
  | zero => intro k _ h; exact absurd h (Nat.not_lt_zero _)
  | succ n ih =>
    intro k hk hn
    refine pk_le c k (fun h => ?_) (fun h => ?_)
    · have e : k = c := by omega
      rw [e]; exact hp
    have nx := ih (k + 1) (by omega) (by omega)
    refine tp_brX (by omega) (fun hm => ?_) (fun hm => ?_)
    · have e : tp_mk (fun m => ∃ s, s < k ∧ tp_m S s ∧ tp_G P E nm c ax t dn pl s m) c = tp_mk (fun m => ∃ s, s < k + 1 ∧ tp_m S s ∧ tp_G P E nm c ax t dn pl s m) c := by
        apply tp_mkc
        intro m _
        constructor
        · rintro ⟨s, z1, z2⟩; exact ⟨s, by omega, z2⟩
        · rintro ⟨s, z1, z2, z3⟩
          by_cases y : s = k
          · rw [y] at z2; exact absurd z2 hm
          · exact ⟨s, by omega, z2, z3⟩
      rw [e]
      exact nm_r (nI_1 k) nx
    · refine tp_Xal A h hx ?_
      refine nm_r (e' := tp_mk (tp_K P E nm ax t k) c) (tp_mkand (by omega)) ?_
      refine tp_Xsz ?_
      rw [tp_cmk48 c48]
      have fin : wX_placesAlong_113 post (wX_placesAlong_36 post (nI ax) (tp_mk (tp_Q nm t) c) pl dn (nI c) fo S nm vl pa en kp n) (nI ax) (tp_mk (tp_Q nm t) c) pl dn (tp_mk (fun m => ∃ s, s < k ∧ tp_m S s ∧ tp_G P E nm c ax t dn pl s m) c) (nI k) (tp_mk (tp_K P E nm ax t k) c) (nI (tp_c (tp_K P E nm ax t k) c)) (tp_ix dn pl (nI (tp_c (tp_K P E nm ax t k) c))) (nI c) fo S nm vl pa en kp := by
        refine tp_X113 c48 ?_
        rw [tp_mkor (by omega)]
        have e : tp_mk (fun i => (∃ s, s < k ∧ tp_m S s ∧ tp_G P E nm c ax t dn pl s i) ∨ (tp_K P E nm ax t k i ∧ tp_ix dn pl (nI (tp_c (tp_K P E nm ax t k) c)) = nI (tp_c (tp_K P E nm ax t k) i))) c = tp_mk (fun m => ∃ s, s < k + 1 ∧ tp_m S s ∧ tp_G P E nm c ax t dn pl s m) c := by
          apply tp_mkc
          intro m _
          constructor
          · rintro (⟨s, z1, z2⟩ | z)
            · exact ⟨s, by omega, z2⟩
            · exact ⟨k, by omega, hm, z⟩
          · rintro ⟨s, z1, z2, z3⟩
            by_cases y : s = k
            · subst y; exact Or.inr z3
            · exact Or.inl ⟨s, by omega, z2, z3⟩
        rw [e]; exact nx
      unfold tp_ix at fin
      by_cases hpl : pl ≤ 0
      · refine br_t hpl ?_
        rw [if_pos hpl] at fin
        by_cases hd : dn = 0
        · rw [if_pos hd] at fin
          exact br_t hd fin
        · rw [if_neg hd] at fin
          exact br_f hd fin
      · refine br_f hpl ?_
        rw [if_neg hpl] at fin
        by_cases hd : dn = 0
        · rw [if_pos hd] at fin
          exact br_t hd fin
        · rw [if_neg hd] at fin
          exact br_f hd fin
theorem tp_Xpl {post : Int64 → Prop} (A : tp_A c P E pa en) (hS : ∀ i, tp_m S i → i < c) {ax t : Nat} {pl : Int32} (hx : ax ≤ 10) (hp : post (tp_mk (fun m => ∃ s, tp_m S s ∧ tp_G P E nm c ax t (tp_dn ax) pl s m) c)) :
    wpX_placesAlong post (nI c, fo, S, nm, vl, pa, en, kp) (nI ax) (tp_mk (tp_Q nm t) c) pl := by
  have c48 := A.2.2.1
  have e1 : tp_mk (fun m => ∃ s, tp_m S s ∧ tp_G P E nm c ax t (tp_dn ax) pl s m) c = tp_mk (fun m => ∃ s, s < c ∧ tp_m S s ∧ tp_G P E nm c ax t (tp_dn ax) pl s m) c := by
    apply tp_mkc
    intro m _
    exact ⟨fun ⟨s, y1, y2⟩ => ⟨s, hS s y1, y1, y2⟩, fun ⟨s, y1, y2, y3⟩ => ⟨s, y2, y3⟩⟩
  have e2 : (0 : Int64) = tp_mk (fun m => ∃ s, s < 0 ∧ tp_m S s ∧ tp_G P E nm c ax t (tp_dn ax) pl s m) c := by
    symm
    apply tp_mk0 (by omega)
    rintro m _ ⟨s, y1, y2⟩
    omega
  rw [e1] at hp
  have L := tp_Xpl_lp (fo := fo) (vl := vl) (kp := kp) A hx hp (c + 1) 0 (by omega) (by omega)
  rw [← e2] at L
  have d1 : ax = 4 ∨ ax = 6 ∨ ax = 8 ∨ ax = 10 → tp_dn ax = 1 := fun h => if_pos h
  have d0 : ¬ (ax = 4 ∨ ax = 6 ∨ ax = 8 ∨ ax = 10) → tp_dn ax = 0 := fun h => if_neg h
  refine pk_eq ax 4 (fun z => ?_) (fun z4 => ?_)
  · rw [d1 (by omega)] at L; exact Exists.intro (c + 1) L
  refine pk_eq ax 6 (fun z => ?_) (fun z6 => ?_)
  · rw [d1 (by omega)] at L; exact Exists.intro (c + 1) L
  refine pk_eq ax 8 (fun z => ?_) (fun z8 => ?_)
  · rw [d1 (by omega)] at L; exact Exists.intro (c + 1) L
  refine pk_eq ax 10 (fun z => ?_) (fun z10 => ?_)
  · rw [d1 (by omega)] at L; exact Exists.intro (c + 1) L
  rw [d0 (by omega)] at L; exact Exists.intro (c + 1) L
end
end
section
/-! Y's walks -/
/-- what the two sides hold of a node besides its place -/
def tp_X (nm vl tx wo : Nat → Int32) : Prop := ∀ j, (nm j = 8 ∧ tx j = 1 ∧ wo j = vl j) ∨ (¬ nm j = 8 ∧ tx j = 0 ∧ wo j = nm j)
section
variable {c : Nat} {P E : Nat → Nat} {fc : Int32} {S : Int64} {nm vl pa en tx wo : Nat → Int32} {kp : Nat → Int64}
theorem tp_Ysz_lp {fn : Int32} {post : Int32 → Prop} (hp : post (nI (tp_c (tp_m S) 48))) : ∀ n i, i ≤ 48 → 48 - i < n → wY_size_4 post fn fc S pa tx wo kp n (nI (tp_c (tp_m S) i)) (nI i) := by
  intro n
  induction n with
  | zero => intro i _ h; exact absurd h (Nat.not_lt_zero _)
  | succ n ih =>
    intro i hi hn
    refine pk_le 48 i (fun h => ?_) (fun h => ?_)
    · have e : i = 48 := by omega
      rw [e]; exact hp
    · refine nm_r (e' := nI (tp_c (tp_m S) (i + 1))) ?_ (nm_r (nI_1 i) (ih (i + 1) (by omega) (by omega)))
      rw [tp_iY S (by omega), nI_add]
      rfl
theorem tp_Ysz {fn : Int32} {post : Int32 → Prop} (hp : post (nI (tp_c (tp_m S) 48))) : wpY_size post (fn, fc, S, pa, tx, wo, kp) :=
  Exists.intro 49 (tp_Ysz_lp hp 49 0 (by omega) (by omega))
theorem tp_Yab_lp {post : Int32 → Prop} (A : tp_A c P E pa en) {a : Nat} (ha : a < c) :
    ∀ n q, q + 1 < n → q < c → (a ≤ q ∧ q < E a → post 1) → (¬ (a ≤ q ∧ q < E a) → post 0) → wY_above_7 post (nI a) (nI c) fc S pa tx wo kp n (nI q) := by
  obtain ⟨T, c0, c48, pa0, hpa, hen⟩ := A
  intro n
  induction n with
  | zero => intro q h; exact absurd h (Nat.not_lt_zero _)
  | succ n ih =>
    intro q hn hq h1 h0
    refine br_f (nI_pos (by omega)) ?_
    refine pk_eq q a (fun e => ?_) (fun e => ?_)
    · subst e
      exact br_t rfl (h1 ⟨Nat.le_refl q, (T.2.1 q hq).1⟩)
    · refine ⟨vp_in_nI (by omega) (by omega), ?_⟩
      refine nm_r (e' := pa q) (by rw [nI_clamp (by omega)]) ?_
      by_cases z : q = 0
      · have e2 : pa q = -1 := by rw [z]; exact pa0
        rw [e2]
        obtain ⟨n', rfl⟩ : ∃ n', n = n' + 1 := ⟨n - 1, by omega⟩
        exact br_t (by decide) (br_f (tp_m1ne (by omega)) (h0 (by omega)))
      · have hP := T.1 q (by omega) hq
        rw [hpa q (by omega) hq]
        have u := tp_up T ha (m := q) (by omega) hq
        refine ih (P q) (by omega) (by omega) (fun y => h1 ?_) (fun y => h0 (fun w => y (u.mp ⟨by omega, w.2⟩)))
        have := u.mpr y
        omega
theorem tp_Yab {post : Int32 → Prop} (A : tp_A c P E pa en) {a m : Nat} (ha : a < c) (hm : m < c) (h1 : a < m ∧ m < E a → post 1) (h0 : ¬ (a < m ∧ m < E a) → post 0) : wpY_above post (nI c, fc, S, pa, tx, wo, kp) (nI a) (nI m) := by
  have A0 := A
  obtain ⟨T, c0, c48, pa0, hpa, hen⟩ := A
  refine And.intro (vp_in_nI (by omega) (by omega)) ?_
  refine nm_r (e' := pa m) (by rw [nI_clamp (by omega)]) ?_
  by_cases z : m = 0
  · have e2 : pa m = -1 := by rw [z]; exact pa0
    rw [e2]
    exact Exists.intro 1 (br_t (by decide) (br_f (tp_m1ne (by omega)) (h0 (by omega))))
  · have hP := T.1 m (by omega) hm
    rw [hpa m (by omega) hm]
    have u := tp_up T ha (m := m) (by omega) hm
    exact Exists.intro (P m + 2) (tp_Yab_lp A0 ha (P m + 2) (P m) (by omega) (by omega) (fun y => h1 (u.mpr y)) (fun y => h0 (fun w => y (u.mp w))))
theorem tp_Yld29 {post : Int32 → Prop} (A : tp_A c P E pa en) {ax n m : Nat} {z : Int32} (hx : ax ≤ 10) (hn : n < c) (hm : m < c)
    (hz : (z = 0 ∧ ¬ (0 < n ∧ 0 < m ∧ P n = P m)) ∨ (z = 1 ∧ (0 < n ∧ 0 < m ∧ P n = P m)))
    (h1 : tp_L P E n m ax → post 1) (h0 : ¬ tp_L P E n m ax → post 0) : wY_leads_29 post (nI ax) (nI n) (nI m) z (nI c) fc S pa tx wo kp := by
  have A0 := A
  obtain ⟨T, c0, c48, pa0, hpa, hen⟩ := A
  have hEn := T.2.1 n hn
  have hEm := T.2.1 m hm
  have par : ∀ {a b : Nat} {X Y : Prop}, a < c → b < c → (0 < a ∧ P a = b → X) → (¬ (0 < a ∧ P a = b) → Y) → (pa (nI a).toNatClampNeg = nI b → X) ∧ (¬ pa (nI a).toNatClampNeg = nI b → Y) := by
    intro a b X Y ha hb hX hY
    rw [nI_clamp (by omega)]
    by_cases e : a = 0
    · have e2 : pa a = -1 := by rw [e]; exact pa0
      rw [e2]
      exact br_f (tp_m1ne (by omega)) (hY (by omega))
    · have hP := T.1 a (by omega) ha
      rw [hpa a (by omega) ha]
      exact pk_eq (P a) b (fun y => hX ⟨by omega, y⟩) (fun y => hY (fun w => y w.2))
  refine pk_eq ax 0 (fun y => ?_) (fun y0 => ?_)
  · subst y
    exact pk_eq m n (fun y => h1 y) (fun y => h0 y)
  refine pk_eq ax 1 (fun y => ?_) (fun y1 => ?_)
  · subst y
    exact ⟨vp_in_nI (by omega) (by omega), par hm hn h1 h0⟩
  refine pk_eq ax 2 (fun y => ?_) (fun y2 => ?_)
  · subst y
    exact ⟨vp_in_nI (by omega) (by omega), par hn hm h1 h0⟩
  refine pk_eq ax 3 (fun y => ?_) (fun y3 => ?_)
  · subst y
    exact tp_Yab A0 hn hm (fun w => ⟨rfl, h1 w⟩) (fun w => ⟨rfl, h0 w⟩)
  refine pk_eq ax 4 (fun y => ?_) (fun y4 => ?_)
  · subst y
    exact tp_Yab A0 hm hn (fun w => ⟨rfl, h1 w⟩) (fun w => ⟨rfl, h0 w⟩)
  refine pk_eq ax 5 (fun y => ?_) (fun y5 => ?_)
  · subst y
    rcases hz with ⟨rfl, hz⟩ | ⟨rfl, hz⟩
    · exact br_t rfl (h0 (fun w => hz ⟨w.1, w.2.1, w.2.2.1⟩))
    · exact br_f (by decide) (pk_le m n (fun w => h0 (fun v => absurd v.2.2.2 (by omega))) (fun w => h1 ⟨hz.1, hz.2.1, hz.2.2, w⟩))
  refine pk_eq ax 6 (fun y => ?_) (fun y6 => ?_)
  · subst y
    rcases hz with ⟨rfl, hz⟩ | ⟨rfl, hz⟩
    · exact br_t rfl (h0 (fun w => hz ⟨w.1, w.2.1, w.2.2.1⟩))
    · exact br_f (by decide) (pk_le n m (fun w => h0 (fun v => absurd v.2.2.2 (by omega))) (fun w => h1 ⟨hz.1, hz.2.1, hz.2.2, w⟩))
  refine pk_eq ax 7 (fun y => ?_) (fun y7 => ?_)
  · subst y
    have t : tp_L P E n m 7 ↔ E n ≤ m := Iff.rfl
    rw [t] at h1 h0
    refine pk_le m n (fun w => h0 (by omega)) (fun w => ?_)
    exact tp_Yab A0 hn hm (fun v => br_f (by decide) (h0 (by omega))) (fun v => br_t rfl (h1 (by omega)))
  refine pk_eq ax 8 (fun y => ?_) (fun y8 => ?_)
  · subst y
    have t : tp_L P E n m 8 ↔ E m ≤ n := Iff.rfl
    rw [t] at h1 h0
    refine pk_le n m (fun w => h0 (by omega)) (fun w => ?_)
    exact tp_Yab A0 hm hn (fun v => br_f (by decide) (h0 (by omega))) (fun v => br_t rfl (h1 (by omega)))
  refine pk_eq ax 9 (fun y => ?_) (fun y9 => ?_)
  · subst y
    have t : tp_L P E n m 9 ↔ n ≤ m ∧ m < E n := Iff.rfl
    rw [t] at h1 h0
    refine pk_eq m n (fun w => h1 (by omega)) (fun w => ?_)
    exact tp_Yab A0 hn hm (fun v => br_f (by decide) (h1 (by omega))) (fun v => br_t rfl (h0 (by omega)))
  have e10 : ax = 10 := by omega
  subst e10
  have t : tp_L P E n m 10 ↔ m ≤ n ∧ n < E m := Iff.rfl
  rw [t] at h1 h0
  refine pk_eq m n (fun w => h1 (by subst w; omega)) (fun w => ?_)
  exact tp_Yab A0 hm hn (fun v => br_f (by decide) (h1 (by omega))) (fun v => br_t rfl (h0 (by omega)))
theorem tp_Yld {post : Int32 → Prop} (A : tp_A c P E pa en) {ax n m : Nat} (hx : ax ≤ 10) (hn : n < c) (hm : m < c)
    (h1 : tp_L P E n m ax → post 1) (h0 : ¬ tp_L P E n m ax → post 0) : wpY_leads post (nI c, fc, S, pa, tx, wo, kp) (nI ax) (nI n) (nI m) := by
  have A0 := A
  obtain ⟨T, c0, c48, pa0, hpa, hen⟩ := A
  refine And.intro (vp_in_nI (by omega) (by omega)) ?_
  have cn : (nI n).toNatClampNeg = n := nI_clamp (by omega)
  have cm : (nI m).toNatClampNeg = m := nI_clamp (by omega)
  rw [cn, cm]
  by_cases e : n = 0
  · have e2 : pa n = -1 := by rw [e]; exact pa0
    rw [e2]
    exact br_t (by decide) (tp_Yld29 A0 hx hn hm (Or.inl ⟨rfl, by omega⟩) h1 h0)
  · have hP := T.1 n (by omega) hn
    rw [hpa n (by omega) hn]
    refine br_f (nI_pos (by omega)) ⟨vp_in_nI (by omega) (by omega), vp_in_nI (by omega) (by omega), ?_⟩
    by_cases em : m = 0
    · have e2 : pa m = -1 := by rw [em]; exact pa0
      rw [e2]
      exact br_f (fun z => tp_m1ne (a := P n) (by omega) z.symm) (tp_Yld29 A0 hx hn hm (Or.inl ⟨rfl, by omega⟩) h1 h0)
    · have hPm := T.1 m (by omega) hm
      rw [hpa m (by omega) hm]
      exact pk_eq (P n) (P m) (fun y => tp_Yld29 A0 hx hn hm (Or.inr ⟨rfl, by omega, by omega, y⟩) h1 h0) (fun y => tp_Yld29 A0 hx hn hm (Or.inl ⟨rfl, fun w => y w.2.2⟩) h1 h0)
theorem tp_Yps {fn : Int32} {post : Int32 → Prop} (X : tp_X nm vl tx wo) {t m : Nat} (ht : t ≤ 10) (hm : m < 48) (h1 : tp_Q nm t m → post 1) (h0 : ¬ tp_Q nm t m → post 0) : wpY_passes post (fn, fc, S, pa, tx, wo, kp) (nI t) (nI m) := by
  have cm : (nI m).toNatClampNeg = m := nI_clamp (by omega)
  have ib : vp_in (nI m) 48 := vp_in_nI hm (by omega)
  have x := X m
  refine pk_eq t 10 (fun z => h1 (Or.inl z)) (fun z10 => ?_)
  refine pk_eq t 8 (fun z => ?_) (fun z8 => ?_)
  · subst z
    refine ⟨ib, ?_⟩
    rw [cm]
    rcases x with ⟨x1, x2, x3⟩ | ⟨x1, x2, x3⟩
    · rw [x2]
      exact ⟨rfl, h1 (Or.inr (Or.inr x1.symm))⟩
    · rw [x2]
      refine ⟨rfl, h0 ?_⟩
      rintro (y | y | y)
      · omega
      · omega
      · exact x1 y.symm
  · refine ⟨ib, ?_⟩
    rw [cm]
    rcases x with ⟨x1, x2, x3⟩ | ⟨x1, x2, x3⟩
    · rw [x2]
      refine br_f (by decide) (h0 ?_)
      rintro (y | y | y)
      · exact z10 y
      · exact y.2 x1
      · rw [x1] at y
        exact z8 ((nI_eq (b := 8) (by omega) (by omega)).mp y)
    · rw [x2]
      refine br_t rfl ?_
      refine pk_eq t 9 (fun z => h1 (Or.inr (Or.inl ⟨z, x1⟩))) (fun z9 => ?_)
      refine ⟨ib, ?_⟩
      rw [x3]
      refine br_c (fun y => h1 (Or.inr (Or.inr y.symm))) (fun y => h0 ?_)
      rintro (w | w | w)
      · exact z10 w
      · exact z9 w.1
      · exact y w.symm
theorem tp_Ybw {post : Int32 → Prop} {ax : Nat} (hx : ax ≤ 10) (h1 : ax = 2 ∨ ax = 4 ∨ ax = 6 ∨ ax = 8 ∨ ax = 10 → post 1) (h0 : ¬ (ax = 2 ∨ ax = 4 ∨ ax = 6 ∨ ax = 8 ∨ ax = 10) → post 0) : wpY_backwards post (nI ax) := by
  refine pk_eq ax 2 (fun z => h1 (by omega)) (fun z2 => ?_)
  refine pk_eq ax 4 (fun z => h1 (by omega)) (fun z4 => ?_)
  refine pk_eq ax 6 (fun z => h1 (by omega)) (fun z6 => ?_)
  refine pk_eq ax 8 (fun z => h1 (by omega)) (fun z8 => ?_)
  exact pk_eq ax 10 (fun z => h1 (by omega)) (fun z10 => h0 (by omega))
end
end
section
/-! Y's search along an axis -/
def tp_wt (pl all : Int32) : Int32 := if 0 ≤ pl then pl else (all + pl) + 1
noncomputable def tp_N (ax : Nat) (K : Nat → Prop) (c m : Nat) : Nat := if ax = 2 ∨ ax = 4 ∨ ax = 6 ∨ ax = 8 ∨ ax = 10 then tp_c K c - tp_c K m else tp_c K m + 1
def tp_W (K : Nat → Prop) (c ax : Nat) (pl : Int32) (m : Nat) : Prop := K m ∧ (pl = 0 ∨ nI (tp_N ax K c m) = tp_wt pl (nI (tp_c K c)))
section
variable {c : Nat} {P E : Nat → Nat} {fc : Int32} {S : Int64} {nm vl pa en tx wo : Nat → Int32} {kp : Nat → Int64}
theorem tp_Ylp (A : tp_A c P E pa en) (X : tp_X nm vl tx wo) {ax t s m : Nat} (hx : ax ≤ 10) (ht : t ≤ 10) (hs : s < c) (hm : m < c) {C1 C2 D : Prop} (hK : tp_K P E nm ax t s m → D) (h0 : ¬ tp_K P E nm ax t s m → C1 ∧ C2) :
    wpY_leads (fun r => (r = 0 → C1) ∧ (¬ r = 0 → wpY_passes (fun r' => (r' = 0 → C2) ∧ (¬ r' = 0 → D)) (nI c, fc, S, pa, tx, wo, kp) (nI t) (nI m))) (nI c, fc, S, pa, tx, wo, kp) (nI ax) (nI s) (nI m) := by
  have c48 := A.2.2.1
  refine tp_Yld A hx hs hm (fun hL => br_f (by decide) ?_) (fun hL => br_t rfl (h0 (fun k => hL k.1)).1)
  exact tp_Yps X ht (by omega) (fun hQ => br_f (by decide) (hK ⟨hL, hQ⟩)) (fun hQ => br_t rfl (h0 (fun k => hQ k.2)).2)
theorem tp_Y103 {post : Int64 → Prop} {J : Int64 → Int32 → Int32 → Prop} (A : tp_A c P E pa en) (X : tp_X nm vl tx wo) {ax t s m : Nat} (hx : ax ≤ 10) (ht : t ≤ 10) (hs : s < c) (hm : m < c) {pl x6 : Int32} {w w1 w2 w3 : Int64} {i a : Nat}
    (hn : ¬ tp_K P E nm ax t s m → J w (nI a) (nI (i + 1)))
    (hy : tp_K P E nm ax t s m → (pl = 0 ∨ nI (a + 1) = x6) → J (w ||| ((1 : Int64) <<< ((nI m).toInt64 &&& 63))) (nI (a + 1)) (nI (i + 1)))
    (hz : tp_K P E nm ax t s m → ¬ (pl = 0 ∨ nI (a + 1) = x6) → J w (nI (a + 1)) (nI (i + 1))) :
    wY_found_103 post J (nI s) (nI ax) (nI t) pl x6 w (nI a) (nI i) (nI m) (nI c) fc S pa tx wo kp := by
  refine tp_Ylp A X hx ht hs hm (fun hK => ?_) (fun hK => ⟨nm_r (nI_1 i) (hn hK), nm_r (nI_1 i) (hn hK)⟩)
  refine nm_r (nI_1 a) ?_
  have yes : (pl = 0 ∨ nI (a + 1) = x6) → wY_found_141 post J (nI s) (nI ax) (nI t) pl x6 w (nI (a + 1)) (nI i) (nI m) (nI c) fc S pa tx wo kp := fun h => nm_e (nm_r (nI_1 i) (hy hK h))
  refine br_c (fun h => yes (Or.inl h)) (fun h => ?_)
  refine br_c (fun h' => yes (Or.inr h')) (fun h' => nm_r (nI_1 i) (hz hK (fun y => y.elim h h')))
theorem tp_Yfw_lp {post : Int64 → Prop} (A : tp_A c P E pa en) (X : tp_X nm vl tx wo) {ax t s : Nat} (hx : ax ≤ 10) (ht : t ≤ 10) (hs : s < c) (hb : ¬ (ax = 2 ∨ ax = 4 ∨ ax = 6 ∨ ax = 8 ∨ ax = 10)) {pl x6 : Int32}
    (hp : post (tp_mk (fun m => m < c ∧ tp_K P E nm ax t s m ∧ (pl = 0 ∨ nI (tp_c (tp_K P E nm ax t s) m + 1) = x6)) c)) :
    ∀ n i, i ≤ c → c - i < n → wY_found_73 post (nI s) (nI ax) (nI t) pl x6 (nI c) fc S pa tx wo kp n (tp_mk (fun m => m < i ∧ tp_K P E nm ax t s m ∧ (pl = 0 ∨ nI (tp_c (tp_K P E nm ax t s) m + 1) = x6)) c) (nI (tp_c (tp_K P E nm ax t s) i)) (nI i) := by
  have c48 := A.2.2.1
  intro n
  induction n with
  | zero => intro i _ h; exact absurd h (Nat.not_lt_zero _)
  | succ n ih =>
    intro i hi hn
    refine pk_le c i (fun h => ?_) (fun h => ?_)
    · have e : i = c := by omega
      rw [e]; exact hp
    have nx := ih (i + 1) (by omega) (by omega)
    refine tp_Ybw hx (fun y => absurd y hb) (fun _ => br_t rfl ?_)
    refine tp_Y103 A X hx ht hs h (w1 := 0) (w2 := 0) (w3 := 0) (fun hK => ?_) (fun hK h2 => ?_) (fun hK h2 => ?_)
    · rw [tp_cf hK] at nx
      have e : tp_mk (fun m => m < i ∧ tp_K P E nm ax t s m ∧ (pl = 0 ∨ nI (tp_c (tp_K P E nm ax t s) m + 1) = x6)) c = tp_mk (fun m => m < i + 1 ∧ tp_K P E nm ax t s m ∧ (pl = 0 ∨ nI (tp_c (tp_K P E nm ax t s) m + 1) = x6)) c := by
        apply tp_mkc
        intro m _
        constructor
        · rintro ⟨a, b⟩; exact ⟨by omega, b⟩
        · rintro ⟨a, b⟩
          by_cases y : m = i
          · subst y; exact absurd b.1 hK
          · exact ⟨by omega, b⟩
      rw [e]; exact nx
    · rw [tp_ct hK] at nx
      rw [tp_mkb (by omega) h]
      have e : tp_mk (fun m => (m < i ∧ tp_K P E nm ax t s m ∧ (pl = 0 ∨ nI (tp_c (tp_K P E nm ax t s) m + 1) = x6)) ∨ m = i) c = tp_mk (fun m => m < i + 1 ∧ tp_K P E nm ax t s m ∧ (pl = 0 ∨ nI (tp_c (tp_K P E nm ax t s) m + 1) = x6)) c := by
        apply tp_mkc
        intro m _
        constructor
        · rintro (⟨a, b⟩ | rfl)
          · exact ⟨by omega, b⟩
          · exact ⟨by omega, hK, h2⟩
        · rintro ⟨a, b⟩
          by_cases y : m = i
          · exact Or.inr y
          · exact Or.inl ⟨by omega, b⟩
      rw [e]; exact nx
    · rw [tp_ct hK] at nx
      have e : tp_mk (fun m => m < i ∧ tp_K P E nm ax t s m ∧ (pl = 0 ∨ nI (tp_c (tp_K P E nm ax t s) m + 1) = x6)) c = tp_mk (fun m => m < i + 1 ∧ tp_K P E nm ax t s m ∧ (pl = 0 ∨ nI (tp_c (tp_K P E nm ax t s) m + 1) = x6)) c := by
        apply tp_mkc
        intro m _
        constructor
        · rintro ⟨a, b⟩; exact ⟨by omega, b⟩
        · rintro ⟨a, b⟩
          by_cases y : m = i
          · subst y; exact absurd b.2 h2
          · exact ⟨by omega, b⟩
      rw [e]; exact nx
theorem tp_Ybk_lp {post : Int64 → Prop} (A : tp_A c P E pa en) (X : tp_X nm vl tx wo) {ax t s : Nat} (hx : ax ≤ 10) (ht : t ≤ 10) (hs : s < c) (hb : ax = 2 ∨ ax = 4 ∨ ax = 6 ∨ ax = 8 ∨ ax = 10) {pl x6 : Int32} {K : Nat → Prop} (eK : tp_K P E nm ax t s = K)
    (hp : post (tp_mk (fun m => c ≤ m + c ∧ K m ∧ (pl = 0 ∨ nI (tp_c K c - tp_c K m) = x6)) c)) :
    ∀ n i, i ≤ c → c - i < n → wY_found_73 post (nI s) (nI ax) (nI t) pl x6 (nI c) fc S pa tx wo kp n (tp_mk (fun m => c ≤ m + i ∧ K m ∧ (pl = 0 ∨ nI (tp_c K c - tp_c K m) = x6)) c) (nI (tp_c K c - tp_c K (c - i))) (nI i) := by
  have c48 := A.2.2.1
  intro n
  induction n with
  | zero => intro i _ h; exact absurd h (Nat.not_lt_zero _)
  | succ n ih =>
    intro i hi hn
    refine pk_le c i (fun h => ?_) (fun h => ?_)
    · have e : i = c := by omega
      rw [e]; exact hp
    have nx := ih (i + 1) (by omega) (by omega)
    have ec : c - i = (c - (i + 1)) + 1 := by omega
    have hmono := tp_cmono K (a := c - i) (b := c) (by omega)
    refine tp_Ybw hx (fun _ => br_f (by decide) ?_) (fun y => absurd hb y)
    have ez : (nI c - 1) - nI i = nI (c - (i + 1)) := by
      have e1 : nI c - 1 = nI (c - 1) := pk_sub (b := 1) (by omega)
      rw [e1, pk_sub (by omega), show c - 1 - i = c - (i + 1) by omega]
    rw [ez]
    refine tp_Y103 A X hx ht hs (m := c - (i + 1)) (by omega) (w1 := 0) (w2 := 0) (w3 := 0) (fun hK => ?_) (fun hK h2 => ?_) (fun hK h2 => ?_)
    · rw [eK] at hK
      have ecf := tp_cf hK
      rw [← ec] at ecf
      rw [← ecf] at nx
      have e : tp_mk (fun m => c ≤ m + i ∧ K m ∧ (pl = 0 ∨ nI (tp_c K c - tp_c K m) = x6)) c = tp_mk (fun m => c ≤ m + (i + 1) ∧ K m ∧ (pl = 0 ∨ nI (tp_c K c - tp_c K m) = x6)) c := by
        apply tp_mkc
        intro m _
        constructor
        · rintro ⟨a, b⟩; exact ⟨by omega, b⟩
        · rintro ⟨a, b⟩
          by_cases y : m = c - (i + 1)
          · rw [y] at b; exact absurd b.1 hK
          · exact ⟨by omega, b⟩
      rw [e]; exact nx
    · rw [eK] at hK
      have ecf := tp_ct hK
      rw [← ec] at ecf
      have en : tp_c K c - tp_c K (c - i) + 1 = tp_c K c - tp_c K (c - (i + 1)) := by omega
      rw [en] at h2 ⊢
      rw [tp_mkb (by omega) (by omega)]
      have e : tp_mk (fun m => (c ≤ m + i ∧ K m ∧ (pl = 0 ∨ nI (tp_c K c - tp_c K m) = x6)) ∨ m = c - (i + 1)) c = tp_mk (fun m => c ≤ m + (i + 1) ∧ K m ∧ (pl = 0 ∨ nI (tp_c K c - tp_c K m) = x6)) c := by
        apply tp_mkc
        intro m _
        constructor
        · rintro (⟨a, b⟩ | a)
          · exact ⟨by omega, b⟩
          · refine ⟨by omega, ?_⟩
            rw [a]; exact ⟨hK, h2⟩
        · rintro ⟨a, b⟩
          by_cases y : m = c - (i + 1)
          · exact Or.inr y
          · exact Or.inl ⟨by omega, b⟩
      rw [e]; exact nx
    · rw [eK] at hK
      have ecf := tp_ct hK
      rw [← ec] at ecf
      have en : tp_c K c - tp_c K (c - i) + 1 = tp_c K c - tp_c K (c - (i + 1)) := by omega
      rw [en] at h2 ⊢
      have e : tp_mk (fun m => c ≤ m + i ∧ K m ∧ (pl = 0 ∨ nI (tp_c K c - tp_c K m) = x6)) c = tp_mk (fun m => c ≤ m + (i + 1) ∧ K m ∧ (pl = 0 ∨ nI (tp_c K c - tp_c K m) = x6)) c := by
        apply tp_mkc
        intro m _
        constructor
        · rintro ⟨a, b⟩; exact ⟨by omega, b⟩
        · rintro ⟨a, b⟩
          by_cases y : m = c - (i + 1)
          · rw [y] at b; exact absurd b.2 h2
          · exact ⟨by omega, b⟩
      rw [e]; exact nx
theorem tp_Y73 {post : Int64 → Prop} (A : tp_A c P E pa en) (X : tp_X nm vl tx wo) {ax t s : Nat} (hx : ax ≤ 10) (ht : t ≤ 10) (hs : s < c) {pl x6 : Int32}
    (hp : post (tp_mk (fun m => tp_K P E nm ax t s m ∧ (pl = 0 ∨ nI (tp_N ax (tp_K P E nm ax t s) c m) = x6)) c)) :
    wY_found_73 post (nI s) (nI ax) (nI t) pl x6 (nI c) fc S pa tx wo kp (c + 1) 0 0 0 := by
  have c48 := A.2.2.1
  by_cases hb : ax = 2 ∨ ax = 4 ∨ ax = 6 ∨ ax = 8 ∨ ax = 10
  · have e1 : tp_mk (fun m => tp_K P E nm ax t s m ∧ (pl = 0 ∨ nI (tp_N ax (tp_K P E nm ax t s) c m) = x6)) c = tp_mk (fun m => c ≤ m + c ∧ tp_K P E nm ax t s m ∧ (pl = 0 ∨ nI (tp_c (tp_K P E nm ax t s) c - tp_c (tp_K P E nm ax t s) m) = x6)) c := by
      apply tp_mkc
      intro m _
      unfold tp_N
      rw [if_pos hb]
      exact ⟨fun y => ⟨by omega, y⟩, fun y => y.2⟩
    rw [e1] at hp
    have L := tp_Ybk_lp (fc := fc) (S := S) (kp := kp) A X hx ht hs hb rfl hp (c + 1) 0 (by omega) (by omega)
    have e2 : (0 : Int64) = tp_mk (fun m => c ≤ m + 0 ∧ tp_K P E nm ax t s m ∧ (pl = 0 ∨ nI (tp_c (tp_K P E nm ax t s) c - tp_c (tp_K P E nm ax t s) m) = x6)) c := by
      symm
      apply tp_mk0 (by omega)
      rintro m hm ⟨a, _⟩
      omega
    have e3 : tp_c (tp_K P E nm ax t s) c - tp_c (tp_K P E nm ax t s) (c - 0) = 0 := by rw [Nat.sub_zero, Nat.sub_self]
    rw [← e2, e3] at L
    exact L
  · have e1 : tp_mk (fun m => tp_K P E nm ax t s m ∧ (pl = 0 ∨ nI (tp_N ax (tp_K P E nm ax t s) c m) = x6)) c = tp_mk (fun m => m < c ∧ tp_K P E nm ax t s m ∧ (pl = 0 ∨ nI (tp_c (tp_K P E nm ax t s) m + 1) = x6)) c := by
      apply tp_mkc
      intro m hm
      unfold tp_N
      rw [if_neg hb]
      exact ⟨fun y => ⟨hm, y⟩, fun y => y.2⟩
    rw [e1] at hp
    have L := tp_Yfw_lp (fc := fc) (S := S) (kp := kp) A X hx ht hs hb hp (c + 1) 0 (by omega) (by omega)
    have e2 : (0 : Int64) = tp_mk (fun m => m < 0 ∧ tp_K P E nm ax t s m ∧ (pl = 0 ∨ nI (tp_c (tp_K P E nm ax t s) m + 1) = x6)) c := by
      symm
      apply tp_mk0 (by omega)
      rintro m hm ⟨a, _⟩
      omega
    rw [← e2] at L
    exact L
theorem tp_Yfd_lp {post : Int64 → Prop} (A : tp_A c P E pa en) (X : tp_X nm vl tx wo) {ax t s : Nat} (hx : ax ≤ 10) (ht : t ≤ 10) (hs : s < c) {pl : Int32} (hp : post (tp_mk (tp_W (tp_K P E nm ax t s) c ax pl) c)) :
    ∀ n i, i ≤ c → c - i < n → wY_found_6 post (nI s) (nI ax) (nI t) pl (nI c) fc S pa tx wo kp n (nI (tp_c (tp_K P E nm ax t s) i)) (nI i) := by
  have c48 := A.2.2.1
  intro n
  induction n with
  | zero => intro i _ h; exact absurd h (Nat.not_lt_zero _)
  | succ n ih =>
    intro i hi hn
    refine pk_le c i (fun h => ?_) (fun h => ?_)
    · have e : i = c := by omega
      rw [e]
      by_cases h0 : 0 ≤ pl
      · have ew : tp_wt pl (nI (tp_c (tp_K P E nm ax t s) c)) = pl := if_pos h0
        unfold tp_W at hp
        rw [ew] at hp
        exact br_t h0 (Exists.intro (c + 1) (tp_Y73 A X hx ht hs hp))
      · have ew : tp_wt pl (nI (tp_c (tp_K P E nm ax t s) c)) = (nI (tp_c (tp_K P E nm ax t s) c) + pl) + 1 := if_neg h0
        unfold tp_W at hp
        rw [ew] at hp
        exact br_f h0 (nm_e (Exists.intro (c + 1) (tp_Y73 A X hx ht hs hp)))
    have nx := ih (i + 1) (by omega) (by omega)
    refine tp_Ylp A X hx ht hs h (fun hK => ?_) (fun hK => ?_)
    · rw [tp_ct hK] at nx
      exact nm_r (nI_1 _) (nm_r (nI_1 i) nx)
    · rw [tp_cf hK] at nx
      exact ⟨nm_r (nI_1 i) nx, nm_r (nI_1 i) nx⟩
theorem tp_Yfd {post : Int64 → Prop} (A : tp_A c P E pa en) (X : tp_X nm vl tx wo) {ax t s : Nat} (hx : ax ≤ 10) (ht : t ≤ 10) (hs : s < c) {pl : Int32} (hp : post (tp_mk (tp_W (tp_K P E nm ax t s) c ax pl) c)) :
    wpY_found post (nI c, fc, S, pa, tx, wo, kp) (nI s) (nI ax) (nI t) pl :=
  Exists.intro (c + 1) (tp_Yfd_lp A X hx ht hs hp (c + 1) 0 (by omega) (by omega))
end
theorem tp_r1 (x a i : Int32) : x - a = i + 1 ↔ (x - 1) - i = a := by
  constructor <;> intro h <;> grind
theorem tp_r2 (a i : Int32) : a + 1 = i + 1 ↔ i = a := by
  constructor <;> intro h <;> grind
theorem tp_r3 (p : Int32) : p = (p - 1) + 1 := by grind
theorem tp_key {ax a al : Nat} {pl : Int32} (h0 : ¬ pl = 0) (hlt : a < al) (h2 : ax = 2 → a = 0 ∧ al = 1) : nI (if ax = 2 ∨ ax = 4 ∨ ax = 6 ∨ ax = 8 ∨ ax = 10 then al - a else a + 1) = tp_wt pl (nI al) ↔ tp_ix (tp_dn ax) pl (nI al) = nI a := by
  have hi : ∃ i0 : Int32, tp_wt pl (nI al) = i0 + 1 ∧ (if pl ≤ 0 then nI al + pl else pl - 1) = i0 := by
    by_cases hp : pl ≤ 0
    · have hn : ¬ 0 ≤ pl := fun y => h0 (Int32.le_antisymm hp y)
      exact ⟨nI al + pl, if_neg hn, if_pos hp⟩
    · have hn : 0 ≤ pl := Int32.le_of_lt (Int32.not_le.mp hp)
      refine ⟨pl - 1, ?_, if_neg hp⟩
      unfold tp_wt
      rw [if_pos hn]
      exact tp_r3 pl
  obtain ⟨i0, e1, e2⟩ := hi
  unfold tp_ix
  rw [e1, e2]
  by_cases b : ax = 4 ∨ ax = 6 ∨ ax = 8 ∨ ax = 10
  · have d : tp_dn ax = 1 := if_pos b
    rw [if_pos (Or.inr b), d, if_neg (by decide), ← pk_sub (Nat.le_of_lt hlt)]
    exact tp_r1 _ _ _
  · have d : tp_dn ax = 0 := if_neg b
    rw [d, if_pos rfl]
    by_cases b2 : ax = 2
    · obtain ⟨rfl, rfl⟩ := h2 b2
      rw [if_pos (Or.inl b2)]
      exact tp_r2 (nI 0) i0
    · rw [if_neg (by omega), ← nI_1]
      exact tp_r2 _ _
/-- the place: Y's number against X's index -/
theorem tp_WG {c : Nat} {P E : Nat → Nat} {nm : Nat → Int32} {ax t s m : Nat} {pl : Int32} (hm : m < c) (hc : c ≤ 48) (h0 : ¬ pl = 0) : tp_W (tp_K P E nm ax t s) c ax pl m ↔ tp_G P E nm c ax t (tp_dn ax) pl s m := by
  unfold tp_W tp_G
  have key : tp_K P E nm ax t s m → (nI (tp_N ax (tp_K P E nm ax t s) c m) = tp_wt pl (nI (tp_c (tp_K P E nm ax t s) c)) ↔ tp_ix (tp_dn ax) pl (nI (tp_c (tp_K P E nm ax t s) c)) = nI (tp_c (tp_K P E nm ax t s) m)) := by
    intro hK
    have one : ax = 2 → tp_c (tp_K P E nm ax t s) m = 0 ∧ tp_c (tp_K P E nm ax t s) c = 1 := by
      intro e
      have hu : ∀ j, tp_K P E nm ax t s j → j = m := by
        intro j hj
        rw [e] at hj hK
        have a1 : P s = j := hj.1.2
        have a2 : P s = m := hK.1.2
        omega
      have b1 : tp_c (tp_K P E nm ax t s) m = 0 := by
        apply Classical.byContradiction
        intro hn
        obtain ⟨k, k1, k2, k3⟩ := tp_cex (tp_K P E nm ax t s) m 0 (by omega)
        have := hu k k2
        omega
      refine ⟨b1, ?_⟩
      have b2 := tp_cbig (f := tp_K P E nm ax t s) (c := m + 1) (fun i hi => by have := hu i hi; omega) (c - (m + 1))
      rw [show m + 1 + (c - (m + 1)) = c by omega, tp_ct hK, b1] at b2
      exact b2
    have hlt := tp_clt (f := tp_K P E nm ax t s) hm hK
    have hle := tp_cle (tp_K P E nm ax t s) c
    exact tp_key h0 hlt one
  constructor
  · rintro ⟨h1, h2⟩
    exact ⟨h1, (key h1).mp (h2.elim (fun y => absurd y h0) id)⟩
  · rintro ⟨h1, h2⟩
    exact ⟨h1, Or.inr ((key h1).mpr h2)⟩
end
section
/-! loops of having, valued, step, node, sum -/
section
variable {c : Nat} {S : Int64} {G : Nat → Prop}
theorem tp_fs0 (hc : c ≤ 64) (hS : ∀ i, tp_m S i → i < c) : S = tp_mk (fun m => tp_m S m ∧ (m < 0 → G m)) c := by
  apply tp_mke hc
  intro i _
  exact ⟨fun h => ⟨hS i h, h, fun z => absurd z (Nat.not_lt_zero i)⟩, fun h => h.2.1⟩
theorem tp_fsy {k : Nat} (h : tp_m S k → G k) : tp_mk (fun m => tp_m S m ∧ (m < k → G m)) c = tp_mk (fun m => tp_m S m ∧ (m < k + 1 → G m)) c := by
  apply tp_mkc
  intro m _
  constructor
  · rintro ⟨a, b⟩
    refine ⟨a, fun z => ?_⟩
    by_cases y : m = k
    · subst y; exact h a
    · exact b (by omega)
  · rintro ⟨a, b⟩
    exact ⟨a, fun z => b (by omega)⟩
theorem tp_fsn {k : Nat} (hc : c ≤ 64) (hk : k < c) (h : ¬ G k) : tp_mk (fun m => tp_m S m ∧ (m < k → G m)) c &&& (((1 : Int64) <<< ((nI k).toInt64 &&& 63)) ^^^ (-1)) = tp_mk (fun m => tp_m S m ∧ (m < k + 1 → G m)) c := by
  rw [tp_mks hc hk]
  apply tp_mkc
  intro m _
  constructor
  · rintro ⟨⟨a, b⟩, y⟩
    exact ⟨a, fun z => b (by omega)⟩
  · rintro ⟨a, b⟩
    refine ⟨⟨a, fun z => b (by omega)⟩, fun y => ?_⟩
    subst y
    exact h (b (by omega))
theorem tp_fsm {k : Nat} (hc : c ≤ 64) (hk : k < c) : tp_m (tp_mk (fun m => tp_m S m ∧ (m < k → G m)) c) k ↔ tp_m S k := by
  rw [tp_mkm _ _ c hc]
  exact ⟨fun h => h.2.1, fun h => ⟨hk, h, fun z => absurd z (Nat.lt_irrefl k)⟩⟩
end
def tp_hv (K : Nat → Prop) (c : Nat) (x3 : Int32) : Prop := ((∃ m, m < c ∧ K m) → 1 = x3) ∧ (¬ (∃ m, m < c ∧ K m) → 0 = x3)
def tp_V (nm vl : Nat → Int32) (lo hi : Int32) (m : Nat) : Prop := nm m = 8 ∧ ¬ vl m < lo ∧ ¬ hi < vl m
def tp_VV (E : Nat → Nat) (nm vl : Nat → Int32) (lo hi : Int32) (n : Nat) : Prop := ∃ m, n ≤ m ∧ m < E n ∧ tp_V nm vl lo hi m
noncomputable def tp_sm (S : Int64) (nm vl : Nat → Int32) : Nat → Int32
  | 0 => 0
  | n + 1 => tp_sm S nm vl n + (if tp_d (tp_m S n ∧ nm n = 8) = true then vl n else 0)
theorem tp_smt {S : Int64} {nm vl : Nat → Int32} {n : Nat} (h1 : tp_m S n) (h2 : nm n = 8) : tp_sm S nm vl n + vl n = tp_sm S nm vl (n + 1) := by
  rw [tp_sm, tp_dt ⟨h1, h2⟩, if_pos rfl]
theorem tp_smf {S : Int64} {nm vl : Nat → Int32} {n : Nat} (h : ¬ (tp_m S n ∧ nm n = 8)) : tp_sm S nm vl n + 0 = tp_sm S nm vl (n + 1) := by
  rw [tp_sm, tp_df h, if_neg (by decide)]
theorem tp_smz {S : Int64} {nm vl : Nat → Int32} {n : Nat} (h : ¬ (tp_m S n ∧ nm n = 8)) : tp_sm S nm vl n = tp_sm S nm vl (n + 1) := by
  rw [← tp_smf h, Int32.add_zero]
section
variable {c : Nat} {P E : Nat → Nat} {fo fc : Int32} {S : Int64} {nm vl pa en tx wo : Nat → Int32} {kp : Nat → Int64}
theorem tp_Xhv_lp {post : Int32 → SX → Prop} (A : tp_A c P E pa en) {ax t : Nat} {x3 : Int32} (hx : ax ≤ 10) {W : Int64}
    (eW : W = tp_mk (fun m => tp_m S m ∧ (m < c → tp_hv (tp_K P E nm ax t m) c x3)) c)
    (hp : post (nI (tp_c (tp_m W) 48)) (nI c, fo, W, nm, vl, pa, en, kp)) :
    ∀ n k, k ≤ c → c - k < n → wX_having_32 post (nI ax) x3 (tp_mk (tp_Q nm t) c) (nI c) fo nm vl pa en kp n (nI k) (tp_mk (fun m => tp_m S m ∧ (m < k → tp_hv (tp_K P E nm ax t m) c x3)) c) := by
  have c48 := A.2.2.1
  intro n
  induction n with
  | zero => intro k _ h; exact absurd h (Nat.not_lt_zero _)
  | succ n ih =>
    intro k hk hn
    refine pk_le c k (fun h => ?_) (fun h => ?_)
    · have e : k = c := by omega
      subst e
      rw [← eW]
      exact tp_Xsz hp
    have nx := ih (k + 1) (by omega) (by omega)
    refine tp_brX (by omega) (fun hm => ?_) (fun hm => ?_)
    · rw [tp_fsm (by omega) h] at hm
      refine nm_r (nI_1 k) ?_
      rw [tp_fsy (fun z => absurd z hm)]
      exact nx
    · refine tp_Xal A h hx ?_
      refine nm_r (e' := tp_mk (tp_K P E nm ax t k) c) (tp_mkand (by omega)) ?_
      refine br_c (fun z => ?_) (fun z => ?_)
      · have hn : ¬ ∃ m, m < c ∧ tp_K P E nm ax t k m := fun ⟨m, m1, m2⟩ => tp_mkz (by omega) z m m1 m2
        by_cases e : 0 = x3
        · refine br_t e (nm_r (tp_am1 _) (nm_r (nI_1 k) ?_))
          rw [tp_fsy (fun _ => ⟨fun y => absurd y hn, fun _ => e⟩)]
          exact nx
        · refine br_f e (nm_r (tp_fsn (by omega) h (fun y => e (y.2 hn))) (nm_r (nI_1 k) nx))
      · have hn : ∃ m, m < c ∧ tp_K P E nm ax t k m := by
          apply Classical.byContradiction
          intro hn
          exact z (tp_mk0 (by omega) (fun i hi hh => hn ⟨i, hi, hh⟩))
        by_cases e : 1 = x3
        · refine br_t e (nm_r (tp_am1 _) (nm_r (nI_1 k) ?_))
          rw [tp_fsy (fun _ => ⟨fun _ => e, fun y => absurd hn y⟩)]
          exact nx
        · refine br_f e (nm_r (tp_fsn (by omega) h (fun y => e (y.1 hn))) (nm_r (nI_1 k) nx))
theorem tp_Yhv_lp {post : Int32 → SY → Prop} (A : tp_A c P E pa en) (X : tp_X nm vl tx wo) {ax t : Nat} {x3 : Int32} (hx : ax ≤ 10) (ht : t ≤ 10) {W : Int64}
    (eW : W = tp_mk (fun m => tp_m S m ∧ (m < c → tp_hv (tp_K P E nm ax t m) c x3)) c)
    (hp : post (nI (tp_c (tp_m W) 48)) (nI c, fc, W, pa, tx, wo, kp)) :
    ∀ n k, k ≤ c → c - k < n → wY_having_13 post (nI ax) (nI t) x3 (nI c) fc pa tx wo kp n (nI k) (tp_mk (fun m => tp_m S m ∧ (m < k → tp_hv (tp_K P E nm ax t m) c x3)) c) := by
  have c48 := A.2.2.1
  intro n
  induction n with
  | zero => intro k _ h; exact absurd h (Nat.not_lt_zero _)
  | succ n ih =>
    intro k hk hn
    refine pk_le c k (fun h => ?_) (fun h => ?_)
    · have e : k = c := by omega
      subst e
      rw [← eW]
      exact tp_Ysz hp
    have nx := ih (k + 1) (by omega) (by omega)
    refine tp_Yfd A X hx ht h ?_
    refine br_c (fun z => ?_) (fun z => ?_)
    · have hn : ¬ ∃ m, m < c ∧ tp_K P E nm ax t k m := fun ⟨m, m1, m2⟩ => tp_mkz (by omega) z m m1 ⟨m2, Or.inl rfl⟩
      by_cases e : 0 = x3
      · refine br_t e (nm_r (nI_1 k) ?_)
        rw [tp_fsy (fun _ => ⟨fun y => absurd y hn, fun _ => e⟩)]
        exact nx
      · refine br_f e (nm_r (tp_fsn (by omega) h (fun y => e (y.2 hn))) (nm_r (nI_1 k) nx))
    · have hn : ∃ m, m < c ∧ tp_K P E nm ax t k m := by
        apply Classical.byContradiction
        intro hn
        exact z (tp_mk0 (by omega) (fun i hi hh => hn ⟨i, hi, hh.1⟩))
      by_cases e : 1 = x3
      · refine br_t e (nm_r (nI_1 k) ?_)
        rw [tp_fsy (fun _ => ⟨fun _ => e, fun y => absurd hn y⟩)]
        exact nx
      · refine br_f e (nm_r (tp_fsn (by omega) h (fun y => e (y.1 hn))) (nm_r (nI_1 k) nx))
theorem tp_Xv83_lp {post : Int32 → SX → Prop} (A : tp_A c P E pa en) (hS : ∀ i, tp_m S i → i < c) {lo hi : Int32} {W : Int64}
    (eW : W = tp_mk (fun m => tp_m S m ∧ (m < c → tp_VV E nm vl lo hi m)) c)
    (hp : post (nI (tp_c (tp_m W) 48)) (nI c, fo, W, nm, vl, pa, en, kp)) :
    ∀ n k, k ≤ c → c - k < n → wX_valued_83 post (tp_mk (tp_V nm vl lo hi) c) (nI c) fo S nm vl pa en kp n (tp_mk (tp_VV E nm vl lo hi) k) (nI k) := by
  obtain ⟨T, c0, c48, pa0, hpa, hen⟩ := A
  intro n
  induction n with
  | zero => intro k _ h; exact absurd h (Nat.not_lt_zero _)
  | succ n ih =>
    intro k hk hn
    refine pk_le c k (fun h => ?_) (fun h => ?_)
    · have e : k = c := by omega
      subst e
      have e2 : S &&& tp_mk (tp_VV E nm vl lo hi) k = W := by
        rw [eW]
        apply tp_mke (by omega)
        intro i _
        rw [tp_and, tp_mkm _ _ k (by omega)]
        exact ⟨fun y => ⟨y.2.1, y.1, fun _ => y.2.2⟩, fun y => ⟨y.2.1, y.1, y.2.2 y.1⟩⟩
      refine nm_r e2 ?_
      exact tp_Xsz hp
    have nx := ih (k + 1) (by omega) (by omega)
    have hE := T.2.1 k h
    refine ⟨vp_in_nI (by omega) (by omega), ?_⟩
    rw [nI_clamp (n := k) (by omega), hen k h]
    refine tp_Xst (f := fun m => k ≤ m ∧ m < E k) (c := c) (by omega) hE.2 c48 (fun m _ => Iff.rfl) ?_
    refine nm_r (tp_mkand (by omega)) ?_
    refine br_c (fun z => ?_) (fun z => ?_)
    · have hn : ¬ tp_VV E nm vl lo hi k := fun ⟨m, m1, m2, m3⟩ => tp_mkz (by omega) z m (by omega) ⟨m3, m1, m2⟩
      exact nm_r (tp_mkf hn) (nm_r (nI_1 k) nx)
    · have hn : tp_VV E nm vl lo hi k := by
        apply Classical.byContradiction
        intro hn
        exact z (tp_mk0 (by omega) (fun i hi hh => hn ⟨i, hh.2.1, hh.2.2, hh.1⟩))
      exact nm_r (tp_mkt hn) (nm_r (nI_1 k) nx)
theorem tp_Xv5_lp {post : Int32 → SX → Prop} (A : tp_A c P E pa en) (hS : ∀ i, tp_m S i → i < c) {lo hi : Int32} {W : Int64}
    (eW : W = tp_mk (fun m => tp_m S m ∧ (m < c → tp_VV E nm vl lo hi m)) c)
    (hp : post (nI (tp_c (tp_m W) 48)) (nI c, fo, W, nm, vl, pa, en, kp)) :
    ∀ n k, k ≤ c → c - k < n → wX_valued_5 post lo hi (nI c) fo S nm vl pa en kp n (tp_mk (tp_V nm vl lo hi) k) (nI k) := by
  have c48 := A.2.2.1
  intro n
  induction n with
  | zero => intro k _ h; exact absurd h (Nat.not_lt_zero _)
  | succ n ih =>
    intro k hk hn
    refine pk_le c k (fun h => ?_) (fun h => ?_)
    · have e : k = c := by omega
      rw [e]
      exact Exists.intro (c + 1) (tp_Xv83_lp A hS eW hp (c + 1) 0 (by omega) (by omega))
    have nx := ih (k + 1) (by omega) (by omega)
    have ib : vp_in (nI k) 48 := vp_in_nI (by omega) (by omega)
    have cl : (nI k).toNatClampNeg = k := nI_clamp (by omega)
    have no : ¬ tp_V nm vl lo hi k → wX_valued_52 post (wX_valued_5 post lo hi (nI c) fo S nm vl pa en kp n) lo hi (tp_mk (tp_V nm vl lo hi) k) (nI k) (nI c) fo S nm vl pa en kp := by
      intro q
      exact br_t rfl (nm_r (tp_mkf q) (nm_r (nI_1 k) nx))
    refine ⟨ib, ?_⟩
    rw [cl]
    refine br_c (fun h8 => ⟨ib, ?_⟩) (fun h8 => no (fun y => h8 y.1))
    refine br_c (fun hl => no (fun y => y.2.1 hl)) (fun hl => ⟨ib, ?_⟩)
    refine br_c (fun hh => no (fun y => y.2.2 hh)) (fun hh => ?_)
    exact br_f (by decide) (nm_r (tp_mkt ⟨h8, hl, hh⟩) (nm_r (nI_1 k) nx))
theorem tp_Xvl {post : Int32 → SX → Prop} (A : tp_A c P E pa en) (hS : ∀ i, tp_m S i → i < c) {lo hi : Int32} {W : Int64}
    (eW : W = tp_mk (fun m => tp_m S m ∧ (m < c → tp_VV E nm vl lo hi m)) c)
    (hp : post (nI (tp_c (tp_m W) 48)) (nI c, fo, W, nm, vl, pa, en, kp)) : wpX_valued post (nI c, fo, S, nm, vl, pa, en, kp) lo hi :=
  Exists.intro (c + 1) (tp_Xv5_lp A hS eW hp (c + 1) 0 (by omega) (by omega))
theorem tp_Y46 {post : Int32 → SY → Prop} {J2 : Int32 → Int64 → Prop} {J : Int32 → Int32 → Prop} {fn x3 x4 lo hi : Int32} (X : tp_X nm vl tx wo) {i : Nat} (hi48 : i < 48) (h1 : tp_V nm vl lo hi i → J 1 (nI (i + 1))) (h0 : ¬ tp_V nm vl lo hi i → J x4 (nI (i + 1))) :
    wY_valued_46 post J2 J lo hi x3 x4 (nI i) 1 fn fc S pa tx wo kp := by
  have ib : vp_in (nI i) 48 := vp_in_nI (by omega) (by omega)
  have cl : (nI i).toNatClampNeg = i := nI_clamp (by omega)
  refine br_f (by decide) ⟨ib, ?_⟩
  rw [cl]
  rcases X i with ⟨x1, x2, x3⟩ | ⟨x1, x2, x3⟩
  · rw [x2, x3]
    refine br_f (by decide) ⟨ib, ?_⟩
    refine br_c (fun hl => nm_r (nI_1 i) (h0 (fun y => y.2.1 hl))) (fun hl => ⟨ib, ?_⟩)
    exact br_c (fun hh => nm_r (nI_1 i) (h0 (fun y => y.2.2 hh))) (fun hh => nm_r (nI_1 i) (h1 ⟨x1, hl, hh⟩))
  · rw [x2]
    exact br_t rfl (nm_r (nI_1 i) (h0 (fun y => x1 y.1)))
theorem tp_Yv16_lp {post : Int32 → SY → Prop} {J2 : Int32 → Int64 → Prop} (A : tp_A c P E pa en) (X : tp_X nm vl tx wo) {lo hi : Int32} {k : Nat} (hk : k < c) {w : Int64}
    (h1 : tp_VV E nm vl lo hi k → J2 (nI (k + 1)) w) (h0 : ¬ tp_VV E nm vl lo hi k → J2 (nI (k + 1)) (w &&& (((1 : Int64) <<< ((nI k).toInt64 &&& 63)) ^^^ (-1)))) :
    ∀ n i, i ≤ c → c - i < n → wY_valued_16 post J2 lo hi (nI k) (nI c) fc w pa tx wo kp n (nI (tp_o (∃ m, m < i ∧ k ≤ m ∧ m < E k ∧ tp_V nm vl lo hi m))) (nI i) := by
  have c48 := A.2.2.1
  have hE := A.1.2.1 k hk
  intro n
  induction n with
  | zero => intro i _ h; exact absurd h (Nat.not_lt_zero _)
  | succ n ih =>
    intro i hi' hn
    refine pk_le c i (fun h => ?_) (fun h => ?_)
    · have e : i = c := by omega
      subst e
      by_cases z : ∃ m, m < i ∧ k ≤ m ∧ m < E k ∧ tp_V nm vl lo hi m
      · rw [tp_ot z]
        obtain ⟨m, m1, m2⟩ := z
        exact br_f (by decide) (nm_r (nI_1 k) (h1 ⟨m, m2⟩))
      · rw [tp_of z]
        refine br_t rfl (nm_e (nm_r (nI_1 k) (h0 ?_)))
        rintro ⟨m, m1, m2, m3⟩
        exact z ⟨m, by omega, m1, m2, m3⟩
    have nx := ih (i + 1) (by omega) (by omega)
    -- i adds nothing
    have nof : ¬ (k ≤ i ∧ i < E k ∧ tp_V nm vl lo hi i) → wY_valued_16 post J2 lo hi (nI k) (nI c) fc w pa tx wo kp n (nI (tp_o (∃ m, m < i ∧ k ≤ m ∧ m < E k ∧ tp_V nm vl lo hi m))) (nI (i + 1)) := by
      intro hq
      have e : (∃ m, m < i ∧ k ≤ m ∧ m < E k ∧ tp_V nm vl lo hi m) = (∃ m, m < i + 1 ∧ k ≤ m ∧ m < E k ∧ tp_V nm vl lo hi m) := by
        apply propext
        constructor
        · rintro ⟨m, m1, m2⟩; exact ⟨m, by omega, m2⟩
        · rintro ⟨m, m1, m2⟩
          by_cases y : m = i
          · subst y; exact absurd m2 hq
          · exact ⟨m, by omega, m2⟩
      rw [e]; exact nx
    have yes : (k ≤ i ∧ i < E k) → wY_valued_41 post J2 (wY_valued_16 post J2 lo hi (nI k) (nI c) fc w pa tx wo kp n) lo hi (nI k) (nI (tp_o (∃ m, m < i ∧ k ≤ m ∧ m < E k ∧ tp_V nm vl lo hi m))) (nI i) (nI c) fc w pa tx wo kp := by
      intro hq
      refine tp_Y46 X (by omega) (fun v => ?_) (fun v => nof (fun y => v y.2.2))
      rw [tp_ot ⟨i, by omega, hq.1, hq.2, v⟩] at nx
      exact nx
    refine pk_eq i k (fun e => yes (by omega)) (fun e => ?_)
    refine tp_Yab A hk h (fun y => br_f (by decide) (yes (by omega))) (fun y => br_t rfl ?_)
    exact br_t rfl (nm_r (nI_1 i) (nof (fun z => y (by omega))))
theorem tp_Yv2_lp {post : Int32 → SY → Prop} (A : tp_A c P E pa en) (X : tp_X nm vl tx wo) {lo hi : Int32} {W : Int64}
    (eW : W = tp_mk (fun m => tp_m S m ∧ (m < c → tp_VV E nm vl lo hi m)) c)
    (hp : post (nI (tp_c (tp_m W) 48)) (nI c, fc, W, pa, tx, wo, kp)) :
    ∀ n k, k ≤ c → c - k < n → wY_valued_2 post lo hi (nI c) fc pa tx wo kp n (nI k) (tp_mk (fun m => tp_m S m ∧ (m < k → tp_VV E nm vl lo hi m)) c) := by
  have c48 := A.2.2.1
  intro n
  induction n with
  | zero => intro k _ h; exact absurd h (Nat.not_lt_zero _)
  | succ n ih =>
    intro k hk hn
    refine pk_le c k (fun h => ?_) (fun h => ?_)
    · have e : k = c := by omega
      subst e
      rw [← eW]
      exact tp_Ysz hp
    have nx := ih (k + 1) (by omega) (by omega)
    have L := tp_Yv16_lp (post := post) (J2 := wY_valued_2 post lo hi (nI c) fc pa tx wo kp n) (fc := fc) (kp := kp) (lo := lo) (hi := hi) A X h (w := tp_mk (fun m => tp_m S m ∧ (m < k → tp_VV E nm vl lo hi m)) c)
      (fun y => by rw [tp_fsy (fun _ => y)]; exact nx) (fun y => by rw [tp_fsn (by omega) h y]; exact nx) (c + 1) 0 (by omega) (by omega)
    rw [tp_of (p := ∃ m, m < 0 ∧ k ≤ m ∧ m < E k ∧ tp_V nm vl lo hi m) (by rintro ⟨m, m1, m2⟩; omega)] at L
    exact Exists.intro (c + 1) L
theorem tp_Yvl {post : Int32 → SY → Prop} (A : tp_A c P E pa en) (X : tp_X nm vl tx wo) (hS : ∀ i, tp_m S i → i < c) {lo hi : Int32} {W : Int64}
    (eW : W = tp_mk (fun m => tp_m S m ∧ (m < c → tp_VV E nm vl lo hi m)) c)
    (hp : post (nI (tp_c (tp_m W) 48)) (nI c, fc, W, pa, tx, wo, kp)) : wpY_valued post (nI c, fc, S, pa, tx, wo, kp) lo hi := by
  have c48 := A.2.2.1
  have L := tp_Yv2_lp (fc := fc) (kp := kp) A X eW hp (c + 1) 0 (by omega) (by omega)
  rw [← tp_fs0 (by omega) hS] at L
  exact Exists.intro (c + 1) L
theorem tp_Yst_lp {post : Int32 → SY → Prop} (A : tp_A c P E pa en) (X : tp_X nm vl tx wo) {ax t : Nat} {pl : Int32} (hx : ax ≤ 10) (ht : t ≤ 10) {W : Int64}
    (eW : W = tp_mk (fun m => ∃ s, s < c ∧ tp_m S s ∧ tp_W (tp_K P E nm ax t s) c ax pl m) c)
    (hp : post (nI (tp_c (tp_m W) 48)) (nI c, fc, W, pa, tx, wo, kp)) :
    ∀ n k, k ≤ c → c - k < n → wY_step_28 post (nI ax) (nI t) pl (nI c) fc S pa tx wo kp n (tp_mk (fun m => ∃ s, s < k ∧ tp_m S s ∧ tp_W (tp_K P E nm ax t s) c ax pl m) c) (nI k) := by
  have c48 := A.2.2.1
  intro n
  induction n with
  | zero => intro k _ h; exact absurd h (Nat.not_lt_zero _)
  | succ n ih =>
    intro k hk hn
    refine pk_le c k (fun h => ?_) (fun h => ?_)
    · have e : k = c := by omega
      subst e
      rw [← eW]
      exact tp_Ysz hp
    have nx := ih (k + 1) (by omega) (by omega)
    refine tp_brY (by omega) (fun hm => ?_) (fun hm => ?_)
    · refine tp_Yfd A X hx ht h ?_
      refine nm_r (e' := tp_mk (fun m => ∃ s, s < k + 1 ∧ tp_m S s ∧ tp_W (tp_K P E nm ax t s) c ax pl m) c) ?_ (nm_r (nI_1 k) nx)
      rw [tp_mkor (by omega)]
      apply tp_mkc
      intro m _
      constructor
      · rintro (⟨s, z1, z2⟩ | z)
        · exact ⟨s, by omega, z2⟩
        · exact ⟨k, by omega, hm, z⟩
      · rintro ⟨s, z1, z2, z3⟩
        by_cases y : s = k
        · subst y; exact Or.inr z3
        · exact Or.inl ⟨s, by omega, z2, z3⟩
    · refine nm_r (nI_1 k) ?_
      have e : tp_mk (fun m => ∃ s, s < k ∧ tp_m S s ∧ tp_W (tp_K P E nm ax t s) c ax pl m) c = tp_mk (fun m => ∃ s, s < k + 1 ∧ tp_m S s ∧ tp_W (tp_K P E nm ax t s) c ax pl m) c := by
        apply tp_mkc
        intro m _
        constructor
        · rintro ⟨s, z1, z2⟩; exact ⟨s, by omega, z2⟩
        · rintro ⟨s, z1, z2, z3⟩
          by_cases y : s = k
          · rw [y] at z2; exact absurd z2 hm
          · exact ⟨s, by omega, z2, z3⟩
      rw [e]; exact nx
theorem tp_Ynd_lp {post : Int32 → Prop} (c48 : c ≤ 48) {x1 : Int32} (h1 : ∀ k, k < c → tp_m S k → nI (tp_c (tp_m S) k) = x1 → post (nI k)) (h0 : (∀ k, k < c → tp_m S k → ¬ nI (tp_c (tp_m S) k) = x1) → post (-1)) :
    ∀ n i, i ≤ c → c - i < n → (∀ k, k < i → tp_m S k → ¬ nI (tp_c (tp_m S) k) = x1) → wY_node_4 post x1 (nI c) fc S pa tx wo kp n (nI (tp_c (tp_m S) i)) (nI i) := by
  intro n
  induction n with
  | zero => intro k _ h; exact absurd h (Nat.not_lt_zero _)
  | succ n ih =>
    intro i hi hn hq
    refine pk_le c i (fun h => ?_) (fun h => ?_)
    · exact h0 (fun k k1 => hq k (by omega))
    refine tp_brY (by omega) (fun hm => ?_) (fun hm => ?_)
    · refine br_c (fun e => h1 i h hm e) (fun e => ?_)
      have nx := ih (i + 1) (by omega) (by omega) (fun k k1 k2 => by
        by_cases y : k = i
        · subst y; exact e
        · exact hq k (by omega) k2)
      rw [tp_ct hm] at nx
      exact nm_r (nI_1 _) (nm_r (nI_1 i) nx)
    · have nx := ih (i + 1) (by omega) (by omega) (fun k k1 k2 => by
        by_cases y : k = i
        · subst y; exact absurd k2 hm
        · exact hq k (by omega) k2)
      rw [tp_cf hm] at nx
      exact nm_r (nI_1 i) nx
theorem tp_Ynd {post : Int32 → Prop} (c48 : c ≤ 48) {x1 : Int32} (h1 : ∀ k, k < c → tp_m S k → nI (tp_c (tp_m S) k) = x1 → post (nI k)) (h0 : (∀ k, k < c → tp_m S k → ¬ nI (tp_c (tp_m S) k) = x1) → post (-1)) : wpY_node post (nI c, fc, S, pa, tx, wo, kp) x1 :=
  Exists.intro (c + 1) (tp_Ynd_lp c48 h1 h0 (c + 1) 0 (by omega) (by omega) (fun k h => absurd h (Nat.not_lt_zero k)))
theorem tp_Xsm_lp {post : Int32 → Prop} (c48 : c ≤ 48) (hp : post (tp_sm S nm vl c)) : ∀ n k, k ≤ c → c - k < n → wX_sum_4 post (nI c) fo S nm vl pa en kp n (tp_sm S nm vl k) (nI k) := by
  intro n
  induction n with
  | zero => intro k _ h; exact absurd h (Nat.not_lt_zero _)
  | succ n ih =>
    intro k hk hn
    refine pk_le c k (fun h => ?_) (fun h => ?_)
    · have e : k = c := by omega
      rw [e]; exact hp
    have nx := ih (k + 1) (by omega) (by omega)
    have ib : vp_in (nI k) 48 := vp_in_nI (by omega) (by omega)
    have cl : (nI k).toNatClampNeg = k := nI_clamp (by omega)
    refine tp_brX (by omega) (fun hm => ?_) (fun hm => ?_)
    · exact nm_r (tp_smf (fun y => hm y.1)) (nm_r (nI_1 k) nx)
    · refine ⟨ib, ?_⟩
      rw [cl]
      refine br_c (fun h8 => ⟨ib, ?_⟩) (fun h8 => ?_)
      · exact nm_r (tp_smt hm h8) (nm_r (nI_1 k) nx)
      · exact nm_r (tp_smf (fun y => h8 y.2)) (nm_r (nI_1 k) nx)
theorem tp_Ysm_lp {post : Int32 → Prop} (c48 : c ≤ 48) (X : tp_X nm vl tx wo) (hp : post (tp_sm S nm vl c)) : ∀ n k, k ≤ c → c - k < n → wY_sum_4 post (nI c) fc S pa tx wo kp n (tp_sm S nm vl k) (nI k) := by
  intro n
  induction n with
  | zero => intro k _ h; exact absurd h (Nat.not_lt_zero _)
  | succ n ih =>
    intro k hk hn
    refine pk_le c k (fun h => ?_) (fun h => ?_)
    · have e : k = c := by omega
      rw [e]; exact hp
    have nx := ih (k + 1) (by omega) (by omega)
    have ib : vp_in (nI k) 48 := vp_in_nI (by omega) (by omega)
    have cl : (nI k).toNatClampNeg = k := nI_clamp (by omega)
    refine tp_brY (by omega) (fun hm => ?_) (fun hm => ?_)
    · refine ⟨ib, ?_⟩
      rw [cl]
      rcases X k with ⟨x1, x2, x3⟩ | ⟨x1, x2, x3⟩
      · rw [x2, x3]
        exact br_f (by decide) ⟨ib, nm_r (tp_smt hm x1) (nm_r (nI_1 k) nx)⟩
      · rw [x2, tp_smz (fun y => x1 y.2)]
        exact br_t rfl (nm_r (nI_1 k) nx)
    · rw [tp_smz (fun y => hm y.1)]
      exact nm_r (nI_1 k) nx
end
end
section
/-! the relation -/
def tp_R (c o : Nat) (P E : Nat → Nat) (S : Int64) (nm vl pa en tx wo : Nat → Int32) (kp : Nat → Int64) : Prop :=
  tp_A c P E pa en ∧ tp_X nm vl tx wo ∧ o < c ∧ E o = c ∧ (∀ i, tp_m S i → i < c) ∧ (∀ j i, j < 2 → tp_m (kp j) i → i < c)
/-- one tree: a count, an open node, parents and ends; the sets are the same, the parents are the same array -/
def i_Rel (k : Nat) (u : SX) (v : SY) : Prop :=
  ∃ (c o : Nat) (P E : Nat → Nat) (S : Int64) (nm vl pa en tx wo : Nat → Int32) (kp : Nat → Int64),
    u = (nI c, nI o, S, nm, vl, pa, en, kp) ∧ v = (nI c, nI o, S, pa, tx, wo, kp) ∧ tp_R c o P E S nm vl pa en tx wo kp
theorem i_up {k : Nat} {u : SX} {v : SY} (h : i_Rel k u v) : i_Rel (k + 4) u v := h
theorem tp_rel {k c o : Nat} {P E : Nat → Nat} {S : Int64} {nm vl pa en tx wo : Nat → Int32} {kp : Nat → Int64} (h : tp_R c o P E S nm vl pa en tx wo kp) : i_Rel k (nI c, nI o, S, nm, vl, pa, en, kp) (nI c, nI o, S, pa, tx, wo, kp) :=
  ⟨c, o, P, E, S, nm, vl, pa, en, tx, wo, kp, rfl, rfl, h⟩
theorem i_vc0 : wpX_init (fun u => wpY_init (fun v => i_Rel 0 u v)) := by
  refine nm_e (nm_e ?_)
  refine nm_e ?_
  refine tp_rel (c := 1) (o := 0) (P := fun _ => 0) (E := fun _ => 1) ⟨⟨⟨?_, ?_, ?_, ?_⟩, by omega, by omega, ?_, ?_, ?_⟩, ?_, by omega, rfl, ?_, ?_⟩
  · intro j h1 h2; omega
  · intro j h; show j < 1 ∧ 1 ≤ 1; omega
  · intro j h1 h2; exact Nat.le_refl _
  · intro j m h1 h2 h3
    have : m < 1 := h3
    omega
  · exact pk_us
  · intro j h1 h2; omega
  · intro j h
    have e : j = 0 := by omega
    subst e
    exact pk_us
  · intro j
    exact Or.inr ⟨show ¬ ((0 : Int32) = 8) by decide, rfl, rfl⟩
  · intro i h
    have := (tp_b1 i).mp h
    omega
  · intro j i _ h
    exact absurd h (tp_0 i)
/-- the set alone changes -/
theorem tp_Rset {c o : Nat} {P E : Nat → Nat} {S S' : Int64} {nm vl pa en tx wo : Nat → Int32} {kp : Nat → Int64} (h : tp_R c o P E S nm vl pa en tx wo kp) (hS : ∀ i, tp_m S' i → i < c) : tp_R c o P E S' nm vl pa en tx wo kp :=
  ⟨h.1, h.2.1, h.2.2.1, h.2.2.2.1, hS, h.2.2.2.2.2⟩
theorem tp_mkin {f : Nat → Prop} {c : Nat} (hc : c ≤ 64) : ∀ i, tp_m (tp_mk f c) i → i < c := fun i h => ((tp_mkm f i c hc).mp h).1
theorem i_vc_start {k : Nat} {u : SX} {v : SY} (I : i_Rel k u v) (hk : k + 4 ≤ 2048) : wpX_start (fun u' => wpY_start (fun v' => i_Rel (k + 4) u' v') v) u := by
  obtain ⟨c, o, P, E, S, nm, vl, pa, en, tx, wo, kp, rfl, rfl, R⟩ := I
  have c0 := R.1.2.1
  exact tp_rel (k := k + 4) (tp_Rset R (fun i h => by have := (tp_b1 i).mp h; omega))
theorem i_vc_close {k : Nat} {u : SX} {v : SY} (I : i_Rel k u v) (hk : k + 4 ≤ 2048) : wpX_close (fun r u' => wpY_close (fun r' v' => r' = r ∧ i_Rel (k + 4) u' v') v) u := by
  obtain ⟨c, o, P, E, S, nm, vl, pa, en, tx, wo, kp, rfl, rfl, R⟩ := I
  have R0 := R
  obtain ⟨⟨T, c0, c48, pa0, hpa, hen⟩, X, ho, he, hS, hk2⟩ := R
  by_cases z : o = 0
  · subst z
    exact br_t rfl (br_t rfl ⟨rfl, tp_rel R0⟩)
  · have nz : ¬ nI o = 0 := nI_ne0 (by omega) (by omega)
    have ib : vp_in (nI o) 48 := vp_in_nI (by omega) (by omega)
    have ep : pa (nI o).toNatClampNeg = nI (P o) := by rw [nI_clamp (by omega)]; exact hpa o (by omega) ho
    have hP := T.1 o (by omega) ho
    have hE := T.2.2.1 o (by omega) ho
    have hE2 := (T.2.1 (P o) (by omega)).2
    refine br_f nz ⟨ib, nm_r ep ?_⟩
    refine br_f nz ⟨ib, nm_r ep ?_⟩
    exact ⟨rfl, tp_rel ⟨R0.1, X, by omega, by omega, hS, hk2⟩⟩
theorem tp_and1 (x : Int32) : ∃ j : Nat, j < 2 ∧ x &&& 1 = nI j := by
  obtain ⟨j, h1, h2⟩ := pk_andE x (m := 1) 1 (by decide)
  exact ⟨j, by omega, h2⟩
theorem i_vc_keep {k : Nat} {u : SX} {v : SY} (I : i_Rel k u v) (hk : k + 4 ≤ 2048) (v1 : Int32) : wpX_keep (fun u' => wpY_keep (fun v' => i_Rel (k + 4) u' v') v v1) u v1 := by
  obtain ⟨c, o, P, E, S, nm, vl, pa, en, tx, wo, kp, rfl, rfl, R⟩ := I
  obtain ⟨j, hj, ej⟩ := tp_and1 v1
  have ib : vp_in (v1 &&& 1) 2 := by rw [ej]; exact vp_in_nI hj (by omega)
  refine And.intro ib (nm_e ?_)
  refine And.intro ib (nm_e ?_)
  refine tp_rel ⟨R.1, R.2.1, R.2.2.1, R.2.2.2.1, R.2.2.2.2.1, ?_⟩
  intro q i hq h
  unfold vp_updL at h
  by_cases e : q = (v1 &&& 1).toNatClampNeg
  · rw [if_pos e] at h; exact R.2.2.2.2.1 i h
  · rw [if_neg e] at h; exact R.2.2.2.2.2 q i hq h
theorem i_vc_mix {k : Nat} {u : SX} {v : SY} (I : i_Rel k u v) (hk : k + 4 ≤ 2048) (v1 : Int32) (v2 : Int32) : wpX_mix (fun r u' => wpY_mix (fun r' v' => r' = r ∧ i_Rel (k + 4) u' v') v v1 v2) u v1 v2 := by
  obtain ⟨c, o, P, E, S, nm, vl, pa, en, tx, wo, kp, rfl, rfl, R⟩ := I
  have hS := R.2.2.2.2.1
  obtain ⟨j, hj, ej⟩ := tp_and1 v1
  have ib : vp_in (v1 &&& 1) 2 := by rw [ej]; exact vp_in_nI hj (by omega)
  have hK : ∀ i, tp_m (kp (v1 &&& 1).toNatClampNeg) i → i < c := by
    intro i h
    rw [ej, nI_clamp (by omega)] at h
    exact R.2.2.2.2.2 j i hj h
  by_cases h0 : v2 < 0
  · exact br_t h0 (br_t h0 ⟨rfl, tp_rel R⟩)
  by_cases h2 : v2 ≤ 2
  · have fin : ∀ w : Int64, (∀ i, tp_m w i → i < c) → wX_mix_58 (fun r u' => wpY_mix (fun r' v' => r' = r ∧ i_Rel (k + 4) u' v') (nI c, nI o, S, pa, tx, wo, kp) v1 v2) w (nI c) (nI o) S nm vl pa en kp →
        wX_mix_58 (fun r u' => wpY_mix (fun r' v' => r' = r ∧ i_Rel (k + 4) u' v') (nI c, nI o, S, pa, tx, wo, kp) v1 v2) w (nI c) (nI o) S nm vl pa en kp := fun _ _ h => h
    refine br_f h0 (br_t h2 ⟨ib, nm_e ?_⟩)
    by_cases z0 : v2 = 0
    · refine br_t z0 (tp_Xsz ?_)
      refine br_f h0 (br_t h2 ⟨ib, nm_e ?_⟩)
      refine br_t z0 (tp_Ysz ⟨rfl, tp_rel (tp_Rset R (fun i h => ?_))⟩)
      rw [tp_and] at h; exact hS i h.1
    by_cases z1 : v2 = 1
    · refine br_f z0 (br_t z1 (tp_Xsz ?_))
      refine br_f h0 (br_t h2 ⟨ib, nm_e ?_⟩)
      refine br_f z0 (br_t z1 (tp_Ysz ⟨rfl, tp_rel (tp_Rset R (fun i h => ?_))⟩))
      rw [tp_or] at h; exact h.elim (hS i) (hK i)
    · refine br_f z0 (br_f z1 (tp_Xsz ?_))
      refine br_f h0 (br_t h2 ⟨ib, nm_e ?_⟩)
      refine br_f z0 (br_f z1 (tp_Ysz ⟨rfl, tp_rel (tp_Rset R (fun i h => ?_))⟩))
      rw [tp_and] at h; exact hS i h.1
  · exact br_f h0 (br_f h2 (br_f h0 (br_f h2 ⟨rfl, tp_rel R⟩)))
theorem i_vc_sum {k : Nat} {u : SX} {v : SY} (I : i_Rel k u v) (hk : k + 4 ≤ 2048) : wpX_sum (fun r => wpY_sum (fun r' => r' = r ∧ i_Rel (k + 4) u v) v) u := by
  obtain ⟨c, o, P, E, S, nm, vl, pa, en, tx, wo, kp, rfl, rfl, R⟩ := I
  have c48 := R.1.2.2.1
  refine Exists.intro (c + 1) (tp_Xsm_lp c48 ?_ (c + 1) 0 (by omega) (by omega))
  exact Exists.intro (c + 1) (tp_Ysm_lp c48 R.2.1 ⟨rfl, tp_rel R⟩ (c + 1) 0 (by omega) (by omega))
theorem i_vc_node {k : Nat} {u : SX} {v : SY} (I : i_Rel k u v) (hk : k + 4 ≤ 2048) (v1 : Int32) : wpX_node (fun r => wpY_node (fun r' => r' = r ∧ i_Rel (k + 4) u v) v v1) u v1 := by
  obtain ⟨c, o, P, E, S, nm, vl, pa, en, tx, wo, kp, rfl, rfl, R⟩ := I
  have c48 := R.1.2.2.1
  have hS := R.2.2.2.2.1
  by_cases h0 : v1 < 0
  · refine br_t h0 (tp_Ynd c48 (fun q hq hm e => ?_) (fun _ => ⟨rfl, tp_rel R⟩))
    have := tp_cle (tp_m S) q
    rw [← e] at h0
    exact absurd h0 (nI_pos (by omega))
  refine br_f h0 ?_
  obtain ⟨r, hr, rfl⟩ := nI_of h0
  refine pk_lt r 48 (fun h48 => ?_) (fun h48 => ?_)
  · refine tp_Xrk hr (fun q hq hm hc => ?_) (fun hn => ?_)
    · refine tp_Ynd c48 (fun q' hq' hm' e => ?_) (fun hn => ?_)
      · have := tp_cle (tp_m S) q'
        rw [nI_eq (by omega) hr] at e
        have : q' = q := tp_cinj hm' hm (by omega)
        subst this
        exact ⟨rfl, tp_rel R⟩
      · exact absurd (by rw [hc]) (hn q (hS q hm) hm)
    · refine tp_Ynd c48 (fun q' hq' hm' e => ?_) (fun _ => ⟨rfl, tp_rel R⟩)
      have := tp_cle (tp_m S) q'
      rw [nI_eq (by omega) hr] at e
      exact absurd e (hn q' (by omega) hm')
  · refine tp_Ynd c48 (fun q hq hm e => ?_) (fun _ => ⟨rfl, tp_rel R⟩)
    have := tp_cle (tp_m S) q
    rw [nI_eq (by omega) hr] at e
    omega
theorem i_vc_valued {k : Nat} {u : SX} {v : SY} (I : i_Rel k u v) (hk : k + 4 ≤ 2048) (v1 : Int32) (v2 : Int32) : wpX_valued (fun r u' => wpY_valued (fun r' v' => r' = r ∧ i_Rel (k + 4) u' v') v v1 v2) u v1 v2 := by
  obtain ⟨c, o, P, E, S, nm, vl, pa, en, tx, wo, kp, rfl, rfl, R⟩ := I
  have c48 := R.1.2.2.1
  have hS := R.2.2.2.2.1
  refine tp_Xvl R.1 hS rfl ?_
  refine tp_Yvl R.1 R.2.1 hS rfl ?_
  exact ⟨rfl, tp_rel (tp_Rset R (tp_mkin (by omega)))⟩
theorem tp_ax {x : Int32} (h0 : ¬ x < 0) (h1 : ¬ 10 < x) : ∃ j : Nat, j ≤ 10 ∧ x = nI j := nI_of2 (M := 10) (n := 10) (by decide) h0 (Int32.not_lt.mp h1)
theorem tp_Yrf1 {Q : Int32 → Prop} {v1 v2 : Int32} (hQ : Q 1) (h : v1 < 0 ∨ 10 < v1 ∨ v2 < 0 ∨ ¬ v2 ≤ 10) : wpY_refused Q v1 v2 := by
  by_cases a : v1 < 0
  · exact br_t a hQ
  by_cases b : 10 < v1
  · exact br_f a (br_t b hQ)
  by_cases d : v2 < 0
  · exact br_f a (br_f b (br_t d hQ))
  by_cases e : v2 ≤ 10
  · rcases h with h | h | h | h
    · exact absurd h a
    · exact absurd h b
    · exact absurd h d
    · exact absurd e h
  · exact br_f a (br_f b (br_f d (br_f e hQ)))
theorem tp_Yrf0 {Q : Int32 → Prop} {v1 v2 : Int32} (hQ : Q 0) (a : ¬ v1 < 0) (b : ¬ 10 < v1) (d : ¬ v2 < 0) (e : v2 ≤ 10) : wpY_refused Q v1 v2 := br_f a (br_f b (br_f d (br_t e hQ)))
theorem tp_Yhv1 {fn fc : Int32} {S : Int64} {pa tx wo : Nat → Int32} {kp : Nat → Int64} {post : Int32 → SY → Prop} {v1 v2 x : Int32} (h : v1 < 0 ∨ 10 < v1 ∨ v2 < 0 ∨ ¬ v2 ≤ 10) (hp : post (-1) (fn, fc, S, pa, tx, wo, kp)) : wpY_having post (fn, fc, S, pa, tx, wo, kp) v1 v2 x := by
  unfold wpY_having
  dsimp only
  exact tp_Yrf1 (br_f (by decide) hp) h
theorem tp_Yhv {c : Nat} {P E : Nat → Nat} {fc : Int32} {S : Int64} {nm vl pa en tx wo : Nat → Int32} {kp : Nat → Int64} {post : Int32 → SY → Prop} (A : tp_A c P E pa en) (X : tp_X nm vl tx wo) (hS : ∀ i, tp_m S i → i < c) {ax t : Nat} {x3 : Int32} (hx : ax ≤ 10) (ht : t ≤ 10) {W : Int64}
    (eW : W = tp_mk (fun m => tp_m S m ∧ (m < c → tp_hv (tp_K P E nm ax t m) c x3)) c)
    (hp : post (nI (tp_c (tp_m W) 48)) (nI c, fc, W, pa, tx, wo, kp)) : wpY_having post (nI c, fc, S, pa, tx, wo, kp) (nI ax) (nI t) x3 := by
  have c48 := A.2.2.1
  unfold wpY_having
  dsimp only
  refine tp_Yrf0 (br_t rfl ?_) (nI_pos (by omega)) (nI_nlt (b := ax) (a := 10) (by omega) (by omega)) (nI_pos (by omega)) (nI_le (b := 10) ht (by omega))
  have L := tp_Yhv_lp (fc := fc) (kp := kp) A X hx ht eW hp (c + 1) 0 (by omega) (by omega)
  rw [← tp_fs0 (by omega) hS] at L
  exact Exists.intro (c + 1) L
theorem tp_Xhv {c : Nat} {P E : Nat → Nat} {fo : Int32} {S : Int64} {nm vl pa en : Nat → Int32} {kp : Nat → Int64} {post : Int32 → SX → Prop} (A : tp_A c P E pa en) (hS : ∀ i, tp_m S i → i < c) {ax t : Nat} {x3 : Int32} (hx : ax ≤ 10) (ht : t ≤ 10) {W : Int64}
    (eW : W = tp_mk (fun m => tp_m S m ∧ (m < c → tp_hv (tp_K P E nm ax t m) c x3)) c)
    (hp : post (nI (tp_c (tp_m W) 48)) (nI c, fo, W, nm, vl, pa, en, kp)) : wpX_having post (nI c, fo, S, nm, vl, pa, en, kp) (nI ax) (nI t) x3 := by
  have c48 := A.2.2.1
  unfold wpX_having
  dsimp only
  refine br_f (nI_pos (by omega)) (br_f (nI_nlt (b := ax) (a := 10) (by omega) (by omega)) (br_f (nI_pos (by omega)) (br_t (nI_le (b := 10) ht (by omega)) ?_)))
  refine tp_Xpa c48 ht ?_
  have L := tp_Xhv_lp (fo := fo) (vl := vl) (kp := kp) A hx eW hp (c + 1) 0 (by omega) (by omega)
  rw [← tp_fs0 (by omega) hS] at L
  exact Exists.intro (c + 1) L
theorem i_vc_having {k : Nat} {u : SX} {v : SY} (I : i_Rel k u v) (hk : k + 4 ≤ 2048) (v1 : Int32) (v2 : Int32) (v3 : Int32) : wpX_having (fun r u' => wpY_having (fun r' v' => r' = r ∧ i_Rel (k + 4) u' v') v v1 v2 (lw_bz v3)) u v1 v2 (lw_bz v3) := by
  obtain ⟨c, o, P, E, S, nm, vl, pa, en, tx, wo, kp, rfl, rfl, R⟩ := I
  have c48 := R.1.2.2.1
  have hS := R.2.2.2.2.1
  by_cases a : v1 < 0
  · exact br_t a (tp_Yhv1 (Or.inl a) ⟨rfl, tp_rel R⟩)
  by_cases b : 10 < v1
  · exact br_f a (br_t b (tp_Yhv1 (Or.inr (Or.inl b)) ⟨rfl, tp_rel R⟩))
  by_cases d : v2 < 0
  · exact br_f a (br_f b (br_t d (tp_Yhv1 (Or.inr (Or.inr (Or.inl d))) ⟨rfl, tp_rel R⟩)))
  by_cases e : v2 ≤ 10
  · obtain ⟨ax, hx, rfl⟩ := tp_ax a b
    obtain ⟨t, ht, rfl⟩ := tp_ax d (Int32.not_lt.mpr e)
    refine tp_Xhv R.1 hS hx ht rfl ?_
    refine tp_Yhv R.1 R.2.1 hS hx ht rfl ?_
    exact ⟨rfl, tp_rel (tp_Rset R (tp_mkin (by omega)))⟩
  · exact br_f a (br_f b (br_f d (br_f e (tp_Yhv1 (Or.inr (Or.inr (Or.inr e))) ⟨rfl, tp_rel R⟩))))
end
section
/-! step -/
section
variable {c : Nat} {P E : Nat → Nat} {S : Int64} {nm : Nat → Int32}
theorem tp_step0 (hc : c ≤ 48) (hS : ∀ i, tp_m S i → i < c) {ax t : Nat} {pl : Int32} (h : pl = 0) :
    tp_mk (tp_U P E S ax) c &&& tp_mk (tp_Q nm t) c = tp_mk (fun m => ∃ s, s < c ∧ tp_m S s ∧ tp_W (tp_K P E nm ax t s) c ax pl m) c := by
  rw [tp_mkand (by omega)]
  apply tp_mkc
  intro m _
  constructor
  · rintro ⟨⟨s, s1, s2⟩, q⟩
    exact ⟨s, hS s s1, s1, ⟨s2, q⟩, Or.inl h⟩
  · rintro ⟨s, s0, s1, ⟨s2, q⟩, _⟩
    exact ⟨⟨s, s1, s2⟩, q⟩
theorem tp_step1 (hc : c ≤ 48) (hS : ∀ i, tp_m S i → i < c) {ax t : Nat} {pl : Int32} (h : ¬ pl = 0) :
    tp_mk (fun m => ∃ s, tp_m S s ∧ tp_G P E nm c ax t (tp_dn ax) pl s m) c = tp_mk (fun m => ∃ s, s < c ∧ tp_m S s ∧ tp_W (tp_K P E nm ax t s) c ax pl m) c := by
  apply tp_mkc
  intro m hm
  constructor
  · rintro ⟨s, s1, s2⟩
    exact ⟨s, hS s s1, s1, (tp_WG hm hc h).mpr s2⟩
  · rintro ⟨s, s0, s1, s2⟩
    exact ⟨s, s1, (tp_WG hm hc h).mp s2⟩
end
theorem tp_Yst0 {c : Nat} {P E : Nat → Nat} {fc : Int32} {S : Int64} {nm vl pa en tx wo : Nat → Int32} {kp : Nat → Int64} {post : Int32 → SY → Prop} (A : tp_A c P E pa en) (X : tp_X nm vl tx wo) {ax t : Nat} {pl : Int32} (hx : ax ≤ 10) (ht : t ≤ 10) {W : Int64}
    (eW : W = tp_mk (fun m => ∃ s, s < c ∧ tp_m S s ∧ tp_W (tp_K P E nm ax t s) c ax pl m) c)
    (hp : post (nI (tp_c (tp_m W) 48)) (nI c, fc, W, pa, tx, wo, kp)) : wY_step_28 post (nI ax) (nI t) pl (nI c) fc S pa tx wo kp (c + 1) 0 0 := by
  have c48 := A.2.2.1
  have L := tp_Yst_lp (fc := fc) (kp := kp) A X hx ht eW hp (c + 1) 0 (by omega) (by omega)
  have e2 : (0 : Int64) = tp_mk (fun m => ∃ s, s < 0 ∧ tp_m S s ∧ tp_W (tp_K P E nm ax t s) c ax pl m) c := by
    symm
    apply tp_mk0 (by omega)
    rintro m _ ⟨s, y1, y2⟩
    omega
  rw [← e2] at L
  exact L
theorem i_vc_step {k : Nat} {u : SX} {v : SY} (I : i_Rel k u v) (hk : k + 4 ≤ 2048) (v1 : Int32) (v2 : Int32) (v3 : Int32) : wpX_step (fun r u' => wpY_step (fun r' v' => r' = r ∧ i_Rel (k + 4) u' v') v v1 v2 v3) u v1 v2 v3 := by
  obtain ⟨c, o, P, E, S, nm, vl, pa, en, tx, wo, kp, rfl, rfl, R⟩ := I
  have c48 := R.1.2.2.1
  have hS := R.2.2.2.2.1
  by_cases a : v1 < 0
  · exact br_t a (br_t a (br_f (by decide) ⟨rfl, tp_rel R⟩))
  by_cases b : 10 < v1
  · exact br_f a (br_t b (br_f a (br_t b (br_f (by decide) ⟨rfl, tp_rel R⟩))))
  by_cases d : v2 < 0
  · exact br_f a (br_f b (br_t d (br_f a (br_f b (br_t d (br_f (by decide) ⟨rfl, tp_rel R⟩))))))
  by_cases e : 10 < v2
  · exact br_f a (br_f b (br_f d (br_t e (br_f a (br_f b (br_f d (br_f (Int32.not_le.mpr e) (br_f (by decide) ⟨rfl, tp_rel R⟩))))))))
  have e' : v2 ≤ 10 := Int32.not_lt.mp e
  by_cases f : v3 < (-48)
  · exact br_f a (br_f b (br_f d (br_f e (br_t f (br_f a (br_f b (br_f d (br_t e' (br_t rfl (br_t f ⟨rfl, tp_rel R⟩))))))))))
  by_cases g : v3 ≤ 48
  · obtain ⟨ax, hx, rfl⟩ := tp_ax a b
    obtain ⟨t, ht, rfl⟩ := tp_ax d e
    refine br_f a (br_f b (br_f d (br_f e (br_f f (br_t g ?_)))))
    refine tp_Xpa c48 ht ?_
    have Y : (fun r u' => wpY_step (fun r' v' => r' = r ∧ i_Rel (k + 4) u' v') (nI c, nI o, S, pa, tx, wo, kp) (nI ax) (nI t) v3) (nI (tp_c (tp_m (tp_mk (fun m => ∃ s, s < c ∧ tp_m S s ∧ tp_W (tp_K P E nm ax t s) c ax v3 m) c)) 48)) (nI c, nI o, tp_mk (fun m => ∃ s, s < c ∧ tp_m S s ∧ tp_W (tp_K P E nm ax t s) c ax v3 m) c, nm, vl, pa, en, kp) := by
      refine br_f a (br_f b (br_f d (br_t e' (br_t rfl (br_f f (br_t g ?_))))))
      exact Exists.intro (c + 1) (tp_Yst0 R.1 R.2.1 hx ht rfl ⟨rfl, tp_rel (tp_Rset R (tp_mkin (by omega)))⟩)
    by_cases z : v3 = 0
    · refine br_t z (tp_Xaa R.1 hS hx ?_)
      rw [tp_step0 c48 hS z]
      exact tp_Xsz Y
    · refine br_f z (tp_Xpl R.1 hS hx ?_)
      rw [tp_step1 c48 hS z]
      exact tp_Xsz Y
  · exact br_f a (br_f b (br_f d (br_f e (br_f f (br_f g (br_f a (br_f b (br_f d (br_t e' (br_t rfl (br_f f (br_f g ⟨rfl, tp_rel R⟩))))))))))))
end
section
/-! open, text -/
section
variable {c : Nat} {P E : Nat → Nat} {S : Int64} {nm vl pa en tx wo : Nat → Int32} {kp : Nat → Int64}
theorem tp_Xap_lp {post : SX → Prop} {fcn fo : Int32} (T : tp_T c P E) (c0 : 0 < c) (c48 : c ≤ 48) (pa0 : pa 0 = -1) (hpa : ∀ j, 0 < j → j < c → pa j = nI (P j)) :
    ∀ n q s e, q + 1 < n → q < c → q + s ≤ 47 → post (fcn, fo, 1, nm, vl, pa, (fun j => if j ≤ q ∧ q < E j then fcn else e j), vp_updL (vp_updL kp 0 0) 1 0) →
      wX_append_57 post fcn fo S n (nI q) (nI s) nm vl pa e kp := by
  intro n
  induction n with
  | zero => intro q s e h; exact absurd h (Nat.not_lt_zero _)
  | succ n ih =>
    intro q s e hn hq hs hp
    refine br_f (nI_ge (b := 48) (by omega) (by decide)) ?_
    refine br_f (nI_pos (by omega)) ?_
    have cl : (nI q).toNatClampNeg = q := nI_clamp (by omega)
    rw [cl]
    refine ⟨vp_in_nI (by omega) (by omega), nm_e ⟨vp_in_nI (by omega) (by omega), ?_⟩⟩
    refine nm_e (nm_r (nI_1 s) ?_)
    by_cases z : q = 0
    · have ea : (fun j => if j ≤ q ∧ q < E j then fcn else e j) = upd e q fcn := by
        funext j
        unfold upd
        have := (T.2.1 0 c0).1
        by_cases y : j = q
        · rw [if_pos y, if_pos ⟨by omega, by rw [y, z]; exact this⟩]
        · rw [if_neg y, if_neg (by omega)]
      rw [ea] at hp
      have e2 : pa q = -1 := by rw [z]; exact pa0
      rw [e2]
      obtain ⟨n', rfl⟩ : ∃ n', n = n' + 1 := ⟨n - 1, by omega⟩
      have fin : wX_append_95 post fcn fo S nm vl pa (upd e q fcn) kp := nm_e (nm_e hp)
      exact br_c (fun _ => fin) (fun _ => br_t (by decide) fin)
    · have hP := T.1 q (by omega) hq
      rw [hpa q (by omega) hq]
      refine ih (P q) (s + 1) _ (by omega) (by omega) (by omega) ?_
      have ea : (fun j => if j ≤ P q ∧ P q < E j then fcn else upd e q fcn j) = (fun j => if j ≤ q ∧ q < E j then fcn else e j) := by
        funext j
        unfold upd
        by_cases y : j = q
        · subst y
          rw [if_neg (by omega), if_pos rfl, if_pos ⟨Nat.le_refl j, (T.2.1 j hq).1⟩]
        · rw [if_neg y]
          by_cases w : j < q
          · have u := tp_up T (a := j) (by omega) (by omega) hq
            by_cases x : j ≤ P q ∧ P q < E j
            · have := u.mpr x
              rw [if_pos x, if_pos ⟨by omega, this.2⟩]
            · rw [if_neg x, if_neg (fun v => x (u.mp ⟨w, v.2⟩))]
          · rw [if_neg (by omega), if_neg (by omega)]
      rw [ea]; exact hp
theorem tp_Xap {post : SX → Prop} (A : tp_A c P E pa en) {o : Nat} (ho : o < c) (hc : c < 48) {p0 p1 : Int32}
    (hp : post (nI (c + 1), nI o, 1, upd nm c p0, upd vl c p1, upd pa c (nI o), (fun j => if j ≤ o ∧ o < E j then nI (c + 1) else upd en c (nI (c + 1)) j), vp_updL (vp_updL kp 0 0) 1 0)) :
    wpX_append post (nI c, nI o, S, nm, vl, pa, en, kp) p0 p1 := by
  obtain ⟨T, c0, c48, pa0, hpa, hen⟩ := A
  have ib : vp_in (nI c) 48 := vp_in_nI (by omega) (by omega)
  have cl : (nI c).toNatClampNeg = c := nI_clamp (by omega)
  unfold wpX_append
  dsimp only
  rw [cl, nI_1 c]
  refine ⟨ib, nm_e ⟨ib, nm_e ⟨ib, nm_e ⟨ib, nm_e (nm_e ?_)⟩⟩⟩⟩
  refine Exists.intro (o + 2) (tp_Xap_lp T c0 c48 ?_ ?_ (o + 2) o 0 _ (by omega) ho (by omega) hp)
  · rw [pk_un (by omega)]; exact pa0
  · intro j h1 h2
    rw [pk_un (by omega)]; exact hpa j h1 h2
/-- the state behind a new node -/
theorem tp_Rnew {o o' : Nat} (R : tp_R c o P E S nm vl pa en tx wo kp) (hc : c < 48) (ho' : o' = o ∨ o' = c) {p0 p1 q0 q1 : Int32}
    (hq : (p0 = 8 ∧ q0 = 1 ∧ q1 = p1) ∨ (¬ p0 = 8 ∧ q0 = 0 ∧ q1 = p0)) :
    tp_R (c + 1) o' (tp_P1 c o P) (tp_E1 c o E) 1 (upd nm c p0) (upd vl c p1) (upd pa c (nI o)) (fun j => if j ≤ o ∧ o < E j then nI (c + 1) else upd en c (nI (c + 1)) j) (upd tx c q0) (upd wo c q1) (vp_updL (vp_updL kp 0 0) 1 0) := by
  obtain ⟨⟨T, c0, c48, pa0, hpa, hen⟩, X, ho, he, hS, hk⟩ := R
  refine ⟨⟨tp_new T ho he, by omega, by omega, ?_, ?_, ?_⟩, ?_, by omega, ?_, ?_, ?_⟩
  · rw [pk_un (by omega)]; exact pa0
  · intro j h1 h2
    unfold tp_P1
    by_cases y : j = c
    · rw [if_pos y, y, pk_us]
    · rw [if_neg y, pk_un y]; exact hpa j h1 (by omega)
  · intro j h
    show (if j ≤ o ∧ o < E j then nI (c + 1) else upd en c (nI (c + 1)) j) = nI (tp_E1 c o E j)
    unfold tp_E1
    by_cases y : j = c
    · rw [if_neg (by omega), if_pos y, y, pk_us]
    · rw [if_neg (c := j = c) y]
      by_cases x : j ≤ o ∧ o < E j
      · rw [if_pos x, if_pos x]
      · rw [if_neg x, if_neg x, pk_un y]; exact hen j (by omega)
  · intro j
    by_cases y : j = c
    · rw [y, pk_us, pk_us, pk_us, pk_us]; exact hq
    · rw [pk_un y, pk_un y, pk_un y, pk_un y]; exact X j
  · unfold tp_E1
    by_cases y : o' = c
    · rw [if_pos y]
    · have e : o' = o := by omega
      subst e
      rw [if_neg y, if_pos ⟨Nat.le_refl _, by omega⟩]
  · intro i h
    have := (tp_b1 i).mp h
    omega
  · intro j i hj h
    unfold vp_updL at h
    by_cases y : j = 1
    · rw [if_pos y] at h; exact absurd h (tp_0 i)
    · rw [if_neg y, if_pos (by omega)] at h; exact absurd h (tp_0 i)
theorem tp_Yop {post : Int32 → SY → Prop} {fc : Int32} (hc : c < 48) {p0 : Int32} (hp : post (nI (c + 1)) (nI (c + 1), nI c, 1, upd pa c fc, upd tx c 0, upd wo c (p0 &&& 7), vp_updL (vp_updL kp 0 0) 1 0)) :
    wpY_open post (nI c, fc, S, pa, tx, wo, kp) p0 := by
  have ib : vp_in (nI c) 48 := vp_in_nI (by omega) (by omega)
  have cl : (nI c).toNatClampNeg = c := nI_clamp (by omega)
  have nar : vp_nar .boolean 0 = 0 := rfl
  unfold wpY_open wpY_add
  dsimp only
  rw [cl, nar]
  refine br_f (fun z => absurd ((nI_eq (b := 48) (by omega) (by omega)).mp z) (by omega)) ⟨ib, nm_e ⟨ib, nm_e ⟨ib, nm_e ?_⟩⟩⟩
  refine br_t rfl ?_
  refine nm_r (nI_1 c) ?_
  exact nm_e (nm_e hp)
theorem tp_Ytx {post : Int32 → SY → Prop} {fc : Int32} (hc : c < 48) {p0 : Int32} (hp : post (nI (c + 1)) (nI (c + 1), fc, 1, upd pa c fc, upd tx c 1, upd wo c p0, vp_updL (vp_updL kp 0 0) 1 0)) :
    wpY_text post (nI c, fc, S, pa, tx, wo, kp) p0 := by
  have ib : vp_in (nI c) 48 := vp_in_nI (by omega) (by omega)
  have cl : (nI c).toNatClampNeg = c := nI_clamp (by omega)
  have nar : vp_nar .boolean 1 = 1 := rfl
  unfold wpY_text wpY_add
  dsimp only
  rw [cl, nar]
  refine br_f (fun z => absurd ((nI_eq (b := 48) (by omega) (by omega)).mp z) (by omega)) ⟨ib, nm_e ⟨ib, nm_e ⟨ib, nm_e ?_⟩⟩⟩
  refine br_f (by decide) ?_
  refine nm_r (nI_1 c) ?_
  exact nm_e (nm_e hp)
end
theorem i_vc_open {k : Nat} {u : SX} {v : SY} (I : i_Rel k u v) (hk : k + 4 ≤ 2048) (v1 : Int32) : wpX_open (fun r u' => wpY_open (fun r' v' => r' = r ∧ i_Rel (k + 4) u' v') v v1) u v1 := by
  obtain ⟨c, o, P, E, S, nm, vl, pa, en, tx, wo, kp, rfl, rfl, R⟩ := I
  have c48 := R.1.2.2.1
  have ho := R.2.2.1
  unfold wpX_open
  dsimp only
  refine pk_lt c 48 (fun h => ?_) (fun h => ?_)
  · refine tp_Xap R.1 ho h ?_
    refine nm_r (e' := nI c) (nI_pred c) ?_
    refine tp_Yop h ⟨rfl, ?_⟩
    refine tp_rel (tp_Rnew R h (Or.inr rfl) (Or.inr ⟨?_, rfl, rfl⟩))
    obtain ⟨j, h1, h2⟩ := pk_andE v1 (m := 7) 3 (by decide)
    rw [h2]
    exact fun z => absurd ((nI_eq (b := 8) (by omega) (by omega)).mp z) (by omega)
  · have e : c = 48 := by omega
    subst e
    unfold wpY_open wpY_add
    dsimp only
    exact br_t rfl ⟨rfl, tp_rel R⟩
theorem i_vc_text {k : Nat} {u : SX} {v : SY} (I : i_Rel k u v) (hk : k + 4 ≤ 2048) (v1 : Int32) : wpX_text (fun r u' => wpY_text (fun r' v' => r' = r ∧ i_Rel (k + 4) u' v') v v1) u v1 := by
  obtain ⟨c, o, P, E, S, nm, vl, pa, en, tx, wo, kp, rfl, rfl, R⟩ := I
  have c48 := R.1.2.2.1
  have ho := R.2.2.1
  unfold wpX_text
  dsimp only
  refine pk_lt c 48 (fun h => ?_) (fun h => ?_)
  · refine tp_Xap R.1 ho h ?_
    refine tp_Ytx h ⟨rfl, ?_⟩
    exact tp_rel (tp_Rnew R h (Or.inl rfl) (Or.inl ⟨rfl, rfl, rfl⟩))
  · have e : c = 48 := by omega
    subst e
    unfold wpY_text wpY_add
    dsimp only
    exact br_t rfl ⟨rfl, tp_rel R⟩
end
section
/-! remove -/
def tp_cp (F : Int32 → Int32) (d g t : Nat) (a : Nat → Int32) : Nat → Int32 := fun j => if d ≤ j ∧ j < t then F (a (j + g)) else a j
def tp_fp (e g : Nat) (x : Int32) : Int32 := if x < nI e then x else x - nI g
def tp_fq (e g : Nat) (x : Int32) : Int32 := if x < nI e then x - 0 else x - nI g
def tp_e1 (e g t : Nat) (a : Nat → Int32) : Nat → Int32 := fun j => if j < t then tp_fq e g (a j) else a j
theorem tp_cp0 {F : Int32 → Int32} {d g : Nat} {a : Nat → Int32} : tp_cp F d g d a = a := by
  funext j
  unfold tp_cp
  rw [if_neg (by omega)]
theorem tp_cps {F : Int32 → Int32} {d g t : Nat} {a : Nat → Int32} (hd : d ≤ t) : upd (tp_cp F d g t a) t (F (a (t + g))) = tp_cp F d g (t + 1) a := by
  funext j
  unfold upd tp_cp
  by_cases y : j = t
  · subst y
    rw [if_pos rfl, if_pos ⟨hd, by omega⟩]
  · rw [if_neg y]
    by_cases x : d ≤ j ∧ j < t
    · rw [if_pos x, if_pos ⟨x.1, by omega⟩]
    · rw [if_neg x, if_neg (by omega)]
theorem tp_cpr {F : Int32 → Int32} {d g t : Nat} {a : Nat → Int32} : tp_cp F d g t a (t + g) = a (t + g) := by
  unfold tp_cp
  rw [if_neg (by omega)]
theorem tp_e10 {e g : Nat} {a : Nat → Int32} : tp_e1 e g 0 a = a := by
  funext j
  unfold tp_e1
  rw [if_neg (Nat.not_lt_zero j)]
theorem tp_e1s {e g t : Nat} {a : Nat → Int32} : upd (tp_e1 e g t a) t (tp_fq e g (a t)) = tp_e1 e g (t + 1) a := by
  funext j
  unfold upd tp_e1
  by_cases y : j = t
  · subst y
    rw [if_pos rfl, if_pos (by omega)]
  · rw [if_neg y]
    by_cases x : j < t
    · rw [if_pos x, if_pos (by omega)]
    · rw [if_neg x, if_neg (by omega)]
theorem tp_e1r {e g t : Nat} {a : Nat → Int32} : tp_e1 e g t a t = a t := by
  unfold tp_e1
  rw [if_neg (Nat.lt_irrefl t)]
section
variable {c o d e g : Nat} {P E : Nat → Nat} {S : Int64} {nm vl pa en tx wo : Nat → Int32} {kp : Nat → Int64}
theorem tp_X91_lp {post : Int32 → SX → Prop} (hd : d + g = e) (g0 : 0 < g) (he : e ≤ c) (c48 : c ≤ 48) (ho : o < c)
    (hp : post (nI (c - g)) (nI (c - g), nI (tp_ps e g o), 1, tp_cp id d g (c - g) nm, tp_cp id d g (c - g) vl, tp_cp (tp_fp e g) d g (c - g) pa, tp_cp (fun x => x - nI g) d g (c - g) en, vp_updL (vp_updL kp 0 0) 1 0)) :
    ∀ n t, d ≤ t → t ≤ c - g → c - g - t < n → wX_remove_91 post (nI e) (nI g) (nI c) (nI o) S n (nI (t + g)) (tp_cp id d g t nm) (tp_cp id d g t vl) (tp_cp (tp_fp e g) d g t pa) (tp_cp (fun x => x - nI g) d g t en) kp := by
  intro n
  induction n with
  | zero => intro t _ _ h; exact absurd h (Nat.not_lt_zero _)
  | succ n ih =>
    intro t h1 h2 h3
    refine pk_le c (t + g) (fun h => ?_) (fun h => ?_)
    · have et : t = c - g := by omega
      subst et
      refine nm_r (pk_sub (by omega)) ?_
      unfold tp_ps at hp
      refine pk_lt o e (fun y => ?_) (fun y => ?_)
      · rw [if_pos y] at hp
        exact nm_r (Int32.sub_zero _) (nm_e (nm_e hp))
      · rw [if_neg (by omega)] at hp
        exact nm_r (pk_sub (by omega)) (nm_e (nm_e hp))
    · have nx := ih (t + 1) (by omega) (by omega) (by omega)
      have ib : vp_in (nI (t + g)) 48 := vp_in_nI (by omega) (by omega)
      have ib2 : vp_in (nI t) 48 := vp_in_nI (by omega) (by omega)
      have cl : (nI (t + g)).toNatClampNeg = t + g := nI_clamp (by omega)
      have cl2 : (nI t).toNatClampNeg = t := nI_clamp (by omega)
      have es : nI (t + g) - nI g = nI t := by rw [pk_sub (by omega), Nat.add_sub_cancel]
      have ex : nI (t + g) + 1 = nI (t + 1 + g) := by rw [nI_1]; exact congrArg nI (by omega)
      rw [es, cl, cl2, tp_cpr, tp_cpr, tp_cpr]
      have e170 : ∀ z0, z0 = tp_fp e g (pa (t + g)) → wX_remove_170 post (wX_remove_91 post (nI e) (nI g) (nI c) (nI o) S n) (nI e) (nI g) (nI (t + g)) z0 (nI t) (nI c) (nI o) S (tp_cp id d g (t + 1) nm) (tp_cp id d g (t + 1) vl) (tp_cp (tp_fp e g) d g t pa) (tp_cp (fun x => x - nI g) d g t en) kp := by
        intro z0 ez
        unfold wX_remove_170
        rw [es, cl, cl2, tp_cpr]
        refine ⟨ib2, nm_r (e' := tp_cp (tp_fp e g) d g (t + 1) pa) (by rw [ez]; exact tp_cps h1) ⟨ib, ib2, nm_r (tp_cps (F := fun x => x - nI g) h1) ?_⟩⟩
        exact nm_r ex nx
      refine ⟨ib, ib2, nm_r (tp_cps (F := id) h1) ⟨ib, ib2, nm_r (tp_cps (F := id) h1) ⟨ib, ?_⟩⟩⟩
      exact br_c (fun y => ⟨ib, e170 _ (if_pos y).symm⟩) (fun y => ⟨ib, e170 _ (if_neg y).symm⟩)
theorem tp_X50_lp {post : Int32 → SX → Prop} (hd : d + g = e) (g0 : 0 < g) (he : e ≤ c) (c48 : c ≤ 48) (ho : o < c)
    (hp : post (nI (c - g)) (nI (c - g), nI (tp_ps e g o), 1, tp_cp id d g (c - g) nm, tp_cp id d g (c - g) vl, tp_cp (tp_fp e g) d g (c - g) pa, tp_cp (fun x => x - nI g) d g (c - g) (tp_e1 e g d en), vp_updL (vp_updL kp 0 0) 1 0)) :
    ∀ n t, t ≤ d → d - t < n → wX_remove_50 post (nI d) (nI e) (nI g) (nI c) (nI o) S n (nI t) nm vl pa (tp_e1 e g t en) kp := by
  intro n
  induction n with
  | zero => intro t _ h; exact absurd h (Nat.not_lt_zero _)
  | succ n ih =>
    intro t h1 h2
    refine pk_le d t (fun h => ?_) (fun h => ?_)
    · have et : t = d := by omega
      subst et
      have L := tp_X91_lp (S := S) hd g0 he c48 ho hp (c + 1) t (Nat.le_refl t) (by omega) (by omega)
      rw [tp_cp0, tp_cp0, tp_cp0, tp_cp0, hd] at L
      exact Exists.intro (c + 1) L
    · have nx := ih (t + 1) (by omega) (by omega)
      have ib : vp_in (nI t) 48 := vp_in_nI (by omega) (by omega)
      have cl : (nI t).toNatClampNeg = t := nI_clamp (by omega)
      refine ⟨ib, ib, ?_⟩
      rw [cl, tp_e1r]
      refine br_c (fun y => ⟨ib, nm_r (e' := tp_e1 e g (t + 1) en) ?_ (nm_r (nI_1 t) nx)⟩) (fun y => ⟨ib, nm_r (e' := tp_e1 e g (t + 1) en) ?_ (nm_r (nI_1 t) nx)⟩)
      · rw [← tp_e1s]
        unfold tp_fq
        rw [if_pos y]
      · rw [← tp_e1s]
        unfold tp_fq
        rw [if_neg y]
theorem tp_Xrm {post : Int32 → SX → Prop} (hen : en d = nI e) (d0 : 0 < d) (dc : d < c) (hd : d + g = e) (g0 : 0 < g) (he : e ≤ c) (c48 : c ≤ 48) (ho : o < c) (hno : ¬ (d ≤ o ∧ o < e))
    (hp : post (nI (c - g)) (nI (c - g), nI (tp_ps e g o), 1, tp_cp id d g (c - g) nm, tp_cp id d g (c - g) vl, tp_cp (tp_fp e g) d g (c - g) pa, tp_cp (fun x => x - nI g) d g (c - g) (tp_e1 e g d en), vp_updL (vp_updL kp 0 0) 1 0)) :
    wpX_remove post (nI c, nI o, S, nm, vl, pa, en, kp) (nI d) := by
  have ib : vp_in (nI d) 48 := vp_in_nI (by omega) (by omega)
  have cl : (nI d).toNatClampNeg = d := nI_clamp (by omega)
  have m : wX_remove_36 post (nI d) (nI c) (nI o) S nm vl pa en kp := by
    unfold wX_remove_36
    rw [cl]
    refine ⟨ib, nm_r hen (nm_r (e' := nI g) (by rw [pk_sub (by omega)]; exact congrArg nI (by omega)) ?_)⟩
    have L := tp_X50_lp (S := S) hd g0 he c48 ho hp (d + 1) 0 (by omega) (by omega)
    rw [tp_e10] at L
    exact Exists.intro (d + 1) L
  unfold wpX_remove
  dsimp only
  refine pk_lt d 1 (fun h => by omega) (fun h => ?_)
  refine pk_le c d (fun h => by omega) (fun h => ?_)
  refine pk_lt o d (fun h => m) (fun h => ⟨ib, ?_⟩)
  rw [cl, hen]
  exact pk_le e o (fun h => m) (fun h => by omega)
theorem tp_Y69_lp {post : Int32 → SY → Prop} (hd : d + g = e) (g0 : 0 < g) (he : e ≤ c) (c48 : c ≤ 48) (ho : o < c)
    (hp : post (nI (c - g)) (nI (c - g), nI (tp_ps e g o), 1, tp_cp (tp_fp e g) d g (c - g) pa, tp_cp (vp_nar .boolean) d g (c - g) tx, tp_cp id d g (c - g) wo, vp_updL (vp_updL kp 0 0) 1 0)) :
    ∀ n t, d ≤ t → t ≤ c - g → c - g - t < n → wY_remove_69 post (nI e) (nI g) (nI c) (nI o) S n (nI (t + g)) (tp_cp (tp_fp e g) d g t pa) (tp_cp (vp_nar .boolean) d g t tx) (tp_cp id d g t wo) kp := by
  intro n
  induction n with
  | zero => intro t _ _ h; exact absurd h (Nat.not_lt_zero _)
  | succ n ih =>
    intro t h1 h2 h3
    refine pk_le c (t + g) (fun h => ?_) (fun h => ?_)
    · have et : t = c - g := by omega
      subst et
      refine nm_r (pk_sub (by omega)) ?_
      unfold tp_ps at hp
      refine pk_lt o e (fun y => ?_) (fun y => ?_)
      · rw [if_pos y] at hp
        exact nm_e (nm_e hp)
      · rw [if_neg (by omega)] at hp
        exact nm_r (pk_sub (by omega)) (nm_e (nm_e hp))
    · have nx := ih (t + 1) (by omega) (by omega) (by omega)
      have ib : vp_in (nI (t + g)) 48 := vp_in_nI (by omega) (by omega)
      have ib2 : vp_in (nI t) 48 := vp_in_nI (by omega) (by omega)
      have cl : (nI (t + g)).toNatClampNeg = t + g := nI_clamp (by omega)
      have cl2 : (nI t).toNatClampNeg = t := nI_clamp (by omega)
      have es : nI (t + g) - nI g = nI t := by rw [pk_sub (by omega), Nat.add_sub_cancel]
      have ex : nI (t + g) + 1 = nI (t + 1 + g) := by rw [nI_1]; exact congrArg nI (by omega)
      rw [es, cl, tp_cpr]
      have e116 : ∀ z0, z0 = tp_fp e g (pa (t + g)) → wY_remove_116 post (wY_remove_69 post (nI e) (nI g) (nI c) (nI o) S n) (nI e) (nI g) (nI (t + g)) z0 (nI t) (nI c) (nI o) S (tp_cp (tp_fp e g) d g t pa) (tp_cp (vp_nar .boolean) d g t tx) (tp_cp id d g t wo) kp := by
        intro z0 ez
        unfold wY_remove_116
        rw [es, cl, cl2, tp_cpr, tp_cpr]
        refine ⟨ib2, nm_r (e' := tp_cp (tp_fp e g) d g (t + 1) pa) (by rw [ez]; exact tp_cps h1) ⟨ib, ib2, nm_r (tp_cps (F := vp_nar .boolean) h1) ⟨ib, ib2, nm_r (tp_cps (F := id) h1) ?_⟩⟩⟩
        exact nm_r ex nx
      refine ⟨ib, ?_⟩
      exact br_c (fun y => ⟨ib, e116 _ (if_pos y).symm⟩) (fun y => ⟨ib, e116 _ (if_neg y).symm⟩)
theorem tp_Y39_lp {post : Int32 → SY → Prop} (A : tp_A c P E pa en) (dc : d < c) (hE : E d = e) (hd : d + g = e) (g0 : 0 < g) (ho : o < c)
    (hp : post (nI (c - g)) (nI (c - g), nI (tp_ps e g o), 1, tp_cp (tp_fp e g) d g (c - g) pa, tp_cp (vp_nar .boolean) d g (c - g) tx, tp_cp id d g (c - g) wo, vp_updL (vp_updL kp 0 0) 1 0)) :
    ∀ n x, d < x → x ≤ e → e - x < n → wY_remove_39 post (nI d) (nI c) (nI o) S pa tx wo kp n (nI x) := by
  have c48 := A.2.2.1
  have he : e ≤ c := by rw [← hE]; exact (A.1.2.1 d dc).2
  have eg : nI e - nI d = nI g := by rw [pk_sub (by omega)]; exact congrArg nI (by omega)
  have m : ∃ n69 : Nat, wY_remove_69 post (nI e) (nI g) (nI c) (nI o) S n69 (nI e) pa tx wo kp := by
    have L := tp_Y69_lp (S := S) hd g0 he c48 ho hp (c + 1) d (Nat.le_refl d) (by omega) (by omega)
    rw [tp_cp0, tp_cp0, tp_cp0, hd] at L
    exact Exists.intro (c + 1) L
  intro n
  induction n with
  | zero => intro x _ _ h; exact absurd h (Nat.not_lt_zero _)
  | succ n ih =>
    intro x h1 h2 h3
    refine pk_le c x (fun h => ?_) (fun h => ?_)
    · have ee : x = e := by omega
      subst ee
      exact nm_r eg m
    · refine tp_Yab A dc h (fun y => br_f (by decide) (nm_r (nI_1 x) (ih (x + 1) (by omega) (by omega) (by omega)))) (fun y => br_t rfl ?_)
      have ee : x = e := by omega
      subst ee
      exact nm_r eg m
theorem tp_Yrm {post : Int32 → SY → Prop} (A : tp_A c P E pa en) (d0 : 0 < d) (dc : d < c) (hE : E d = e) (hd : d + g = e) (g0 : 0 < g) (ho : o < c) (hno : ¬ (d ≤ o ∧ o < e))
    (hp : post (nI (c - g)) (nI (c - g), nI (tp_ps e g o), 1, tp_cp (tp_fp e g) d g (c - g) pa, tp_cp (vp_nar .boolean) d g (c - g) tx, tp_cp id d g (c - g) wo, vp_updL (vp_updL kp 0 0) 1 0)) :
    wpY_remove post (nI c, nI o, S, pa, tx, wo, kp) (nI d) := by
  have c48 := A.2.2.1
  unfold wpY_remove
  dsimp only
  refine pk_lt d 1 (fun h => by omega) (fun h => ?_)
  refine pk_le c d (fun h => by omega) (fun h => ?_)
  refine pk_eq d o (fun h => by omega) (fun h => ?_)
  refine tp_Yab A dc ho (fun y => by omega) (fun y => br_t rfl (nm_r (nI_1 d) ?_))
  exact Exists.intro (e + 1) (tp_Y39_lp A dc hE hd g0 ho hp (e + 1) (d + 1) (by omega) (by omega) (by omega))
theorem tp_Rdel (R : tp_R c o P E S nm vl pa en tx wo kp) (d0 : 0 < d) (dc : d < c) (hE : E d = e) (hd : d + g = e) (hno : ¬ (d ≤ o ∧ o < e)) :
    tp_R (c - g) (tp_ps e g o) (fun j => tp_ps e g (P (tp_sg d g j))) (fun j => tp_ps e g (E (tp_sg d g j))) 1 (tp_cp id d g (c - g) nm) (tp_cp id d g (c - g) vl) (tp_cp (tp_fp e g) d g (c - g) pa)
      (tp_cp (fun x => x - nI g) d g (c - g) (tp_e1 e g d en)) (tp_cp (vp_nar .boolean) d g (c - g) tx) (tp_cp id d g (c - g) wo) (vp_updL (vp_updL kp 0 0) 1 0) := by
  obtain ⟨⟨T, c0, c48, pa0, hpa, hen⟩, X, ho, he, hS, hk⟩ := R
  have hde := T.2.1 d dc
  refine ⟨⟨tp_del T d0 dc hE (by omega) (fun j _ _ => rfl) (fun j _ => rfl), by omega, by omega, ?_, ?_, ?_⟩, ?_, ?_, ?_, ?_, ?_⟩
  · unfold tp_cp
    rw [if_neg (by omega)]; exact pa0
  · intro j h1 h2
    show tp_cp (tp_fp e g) d g (c - g) pa j = nI (tp_ps e g (P (tp_sg d g j)))
    unfold tp_cp tp_sg
    by_cases y : j < d
    · have := T.1 j h1 (by omega)
      rw [if_neg (by omega), if_pos y, hpa j h1 (by omega)]
      unfold tp_ps
      rw [if_pos (by omega)]
    · have := T.1 (j + g) (by omega) (by omega)
      rw [if_pos ⟨by omega, h2⟩, if_neg y, hpa (j + g) (by omega) (by omega)]
      unfold tp_fp tp_ps
      by_cases x : P (j + g) < e
      · rw [if_pos x, if_pos (nI_lt x (by omega))]
      · rw [if_neg x, if_neg (nI_nlt (by omega) (by omega)), pk_sub (by omega)]
  · intro j h
    show tp_cp (fun x => x - nI g) d g (c - g) (tp_e1 e g d en) j = nI (tp_ps e g (E (tp_sg d g j)))
    unfold tp_cp tp_sg tp_e1
    by_cases y : j < d
    · have := T.2.1 j (by omega)
      rw [if_neg (by omega), if_pos y, if_pos y, hen j (by omega)]
      unfold tp_fq tp_ps
      by_cases x : E j < e
      · rw [if_pos x, if_pos (nI_lt x (by omega)), Int32.sub_zero]
      · rw [if_neg x, if_neg (nI_nlt (by omega) (by omega)), pk_sub (by omega)]
    · have := T.2.1 (j + g) (by omega)
      rw [if_pos ⟨by omega, h⟩, if_neg y, if_neg (by omega), hen (j + g) (by omega)]
      unfold tp_ps
      rw [if_neg (by omega)]
      exact pk_sub (by omega)
  · intro j
    unfold tp_cp
    by_cases y : d ≤ j ∧ j < c - g
    · rw [if_pos y, if_pos y, if_pos y, if_pos y]
      rcases X (j + g) with ⟨x1, x2, x3⟩ | ⟨x1, x2, x3⟩
      · refine Or.inl ⟨x1, ?_, x3⟩
        rw [x2]; rfl
      · refine Or.inr ⟨x1, ?_, x3⟩
        rw [x2]; rfl
    · rw [if_neg y, if_neg y, if_neg y, if_neg y]; exact X j
  · unfold tp_ps
    split <;> omega
  · show tp_ps e g (E (tp_sg d g (tp_ps e g o))) = c - g
    have s : tp_sg d g (tp_ps e g o) = o := by
      unfold tp_sg tp_ps
      by_cases y : o < e
      · rw [if_pos y, if_pos (by omega)]
      · rw [if_neg y, if_neg (by omega)]; omega
    rw [s, he]
    unfold tp_ps
    rw [if_neg (by omega)]
  · intro i h
    have := (tp_b1 i).mp h
    omega
  · intro j i hj h
    unfold vp_updL at h
    by_cases y : j = 1
    · rw [if_pos y] at h; exact absurd h (tp_0 i)
    · rw [if_neg y, if_pos (by omega)] at h; exact absurd h (tp_0 i)
end
theorem i_vc_remove {k : Nat} {u : SX} {v : SY} (I : i_Rel k u v) (hk : k + 4 ≤ 2048) (v1 : Int32) : wpX_remove (fun r u' => wpY_remove (fun r' v' => r' = r ∧ i_Rel (k + 4) u' v') v v1) u v1 := by
  obtain ⟨c, o, P, E, S, nm, vl, pa, en, tx, wo, kp, rfl, rfl, R⟩ := I
  have R0 := R
  obtain ⟨⟨T, c0, c48, pa0, hpa, hen⟩, X, ho, he, hS, hk2⟩ := R
  by_cases h1 : v1 < 1
  · exact br_t h1 (br_t h1 ⟨rfl, tp_rel R0⟩)
  by_cases hc : nI c ≤ v1
  · exact br_f h1 (br_t hc (br_f h1 (br_t hc ⟨rfl, tp_rel R0⟩)))
  have h0 : ¬ v1 < 0 := fun z => h1 (Int32.lt_trans z (by decide))
  obtain ⟨d, hd, rfl⟩ := nI_of h0
  have d0 : 0 < d := by
    apply Classical.byContradiction
    intro hn
    exact h1 (nI_lt (b := 1) (by omega) (by omega))
  have dc : d < c := by
    apply Classical.byContradiction
    intro hn
    exact hc (nI_le (by omega) hd)
  have hE := T.2.1 d dc
  by_cases hno : d ≤ o ∧ o < E d
  · have ib : vp_in (nI d) 48 := vp_in_nI (by omega) (by omega)
    refine br_f h1 (br_f hc ?_)
    refine br_f (nI_nlt hno.1 (by omega)) ⟨ib, ?_⟩
    rw [nI_clamp (n := d) (by omega), hen d dc]
    refine br_f (nI_ge hno.2 (by omega)) ?_
    refine br_f h1 (br_f hc ?_)
    refine pk_eq d o (fun _ => ⟨rfl, tp_rel R0⟩) (fun z => ?_)
    exact tp_Yab R0.1 dc ho (fun _ => br_f (by decide) ⟨rfl, tp_rel R0⟩) (fun y => absurd ⟨by omega, hno.2⟩ y)
  · refine tp_Xrm (e := E d) (g := E d - d) (hen d dc) d0 dc (by omega) (by omega) hE.2 c48 ho hno ?_
    refine tp_Yrm (e := E d) (g := E d - d) R0.1 d0 dc rfl (by omega) (by omega) ho hno ?_
    exact ⟨rfl, tp_rel (tp_Rdel R0 d0 dc rfl (by omega) hno)⟩
end
