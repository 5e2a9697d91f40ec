section
/-! rows of the kit to paste (starting text), picked by pick.py -/
def bt (x : Int32) (i : Nat) : Bool := x.toBitVec.getLsbD i
theorem b_ext {x y : Int32} (h : ∀ i, i < 32 → bt x i = bt y i) : x = y := Int32.toBitVec_inj.mp (BitVec.eq_of_getLsbD_eq (fun i hi => h i hi))
theorem b_or (x y : Int32) (i : Nat) : bt (x ||| y) i = (bt x i || bt y i) := by unfold bt; rw [Int32.toBitVec_or, BitVec.getLsbD_or]
theorem b_and (x y : Int32) (i : Nat) : bt (x &&& y) i = (bt x i && bt y i) := by unfold bt; rw [Int32.toBitVec_and, BitVec.getLsbD_and]
theorem b_xor (x y : Int32) (i : Nat) : bt (x ^^^ y) i = (bt x i ^^ bt y i) := by unfold bt; rw [Int32.toBitVec_xor, BitVec.getLsbD_xor]
theorem b_big {x : Int32} {i : Nat} (h : 32 ≤ i) : bt x i = false := BitVec.getLsbD_of_ge _ _ h
theorem b_m1 : ∀ i, i < 32 → bt (-1) i = true := by decide +kernel
theorem b_0 (i : Nat) : bt 0 i = false := BitVec.getLsbD_zero
theorem s_l : ∀ n, n < 32 → ((nI n &&& 31).toBitVec.smod 32).toNat = n := by decide +kernel
theorem b_shl (n : Nat) (hn : n < 32) (x : Int32) {i : Nat} (hi : i < 32) : bt (x <<< (nI n &&& 31)) i = (decide (n ≤ i) && bt x (i - n)) := by
  unfold bt
  rw [Int32.toBitVec_shiftLeft]
  show (x.toBitVec <<< ((nI n &&& 31).toBitVec.smod 32).toNat).getLsbD i = _
  rw [s_l n hn, BitVec.getLsbD_shiftLeft]
  rcases Nat.lt_or_ge i n with h | h
  · simp [h, Nat.not_le.mpr h]
  · simp [hi, h, Nat.not_lt.mpr h]
theorem b_sshr (n : Nat) (hn : n < 32) (x : Int32) {i : Nat} (hi : i < 32) : bt (x >>> (nI n &&& 31)) i = if n + i < 32 then bt x (n + i) else bt x 31 := by
  unfold bt
  rw [Int32.toBitVec_shiftRight]
  show (x.toBitVec.sshiftRight ((nI n &&& 31).toBitVec.smod 32).toNat).getLsbD i = _
  rw [s_l n hn, BitVec.getLsbD_sshiftRight, BitVec.msb_eq_getLsbD_last]
  simp [hi]
theorem nf_sh : ∀ l, l < 32 → ((1 : Int32) <<< (nI l &&& 31)).toBitVec = BitVec.twoPow 32 l := by decide +kernel
theorem ts_nf {x : Bool} (h : ¬ x = false) : x = true := by cases x <;> first | rfl | exact absurd rfl h
theorem ts_nt {x : Bool} (h : ¬ x = true) : x = false := by cases x <;> first | rfl | exact absurd rfl h
theorem ts_bit {w : Int64} {s : UInt64} {j : Nat} (hj : j < 64) (hs : s.toNat = j) : ((w.toUInt64 >>> s).toInt64 &&& 1) = 0 ↔ w.toBitVec.getLsbD j = false := by
  have e : (w.toUInt64 >>> s).toInt64.toBitVec = w.toBitVec >>> j := by
    apply BitVec.eq_of_toNat_eq
    show (w.toUInt64 >>> s).toNat = _
    rw [UInt64.toNat_shiftRight, hs, Nat.mod_eq_of_lt hj, BitVec.toNat_ushiftRight]
    rfl
  rw [← Int64.toBitVec_inj, Int64.toBitVec_and, e]
  show w.toBitVec >>> j &&& 1#64 = 0#64 ↔ _
  constructor
  · intro h
    have t := congrArg (fun x => x.getLsbD 0) h
    simpa using t
  · intro h
    apply BitVec.eq_of_getLsbD_eq
    intro i hi
    cases i with
    | zero => simp [h]
    | succ i => simp
theorem wb_tb (n : Nat) : (lN n).toBitVec = BitVec.ofNat 64 n := rfl
theorem wb_inj {a b : Int64} (h : a.toBitVec = b.toBitVec) : a = b := Int64.toBitVec_inj.mp h
theorem wb_c : ∀ k, k < 64 → ((nI k).toInt64 &&& 63) = lN k := by decide +kernel
theorem wb_cu : ∀ k, k < 64 → ((nI k).toInt64.toUInt64 &&& Int64.toUInt64 63) = UInt64.ofNat k := by decide +kernel
theorem wb_sm : ∀ k, k < 64 → (BitVec.ofNat 64 k).smod 64 = BitVec.ofNat 64 k := by decide +kernel
theorem pk_us {f : Nat → Int32} {k : Nat} {x : Int32} : upd f k x k = x := if_pos rfl
theorem pk_un {f : Nat → Int32} {k j : Nat} {x : Int32} (h : j ≠ k) : upd f k x j = f j := if_neg h
theorem pk_sub {a b : Nat} (h : b ≤ a) : nI a - nI b = nI (a - b) := by
  obtain ⟨c, rfl⟩ : ∃ c, a = c + b := ⟨a - b, by omega⟩
  rw [← nI_add, Int32.add_sub_cancel, Nat.add_sub_cancel]
theorem pk_m1 (n : Nat) : nI (n + 1) + (-1) = nI n := by
  rw [← nI_1, Int32.add_assoc, show (1 : Int32) + (-1) = 0 from rfl, Int32.add_zero]
theorem pk_le {x y : Int32} {A B : Prop} (a b : Nat) (f : a ≤ b → A) (g : b < a → B) (hx : x = nI a := by rfl) (hy : y = nI b := by rfl) (ha : a < 2 ^ 31 := by omega) (hb : b < 2 ^ 31 := by omega) : (x ≤ y → A) ∧ (¬ x ≤ y → B) := by
  subst hx hy
  rw [nI_leI ha hb]
  exact ⟨f, fun z => g (by omega)⟩
theorem pk_lt {x y : Int32} {A B : Prop} (a b : Nat) (f : a < b → A) (g : b ≤ a → B) (hx : x = nI a := by rfl) (hy : y = nI b := by rfl) (ha : a < 2 ^ 31 := by omega) (hb : b < 2 ^ 31 := by omega) : (x < y → A) ∧ (¬ x < y → B) := by
  subst hx hy
  rw [nI_ltI ha hb]
  exact ⟨f, fun z => g (by omega)⟩
theorem pk_eq {x y : Int32} {A B : Prop} (a b : Nat) (f : a = b → A) (g : a ≠ b → B) (hx : x = nI a := by rfl) (hy : y = nI b := by rfl) (ha : a < 2 ^ 31 := by omega) (hb : b < 2 ^ 31 := by omega) : (x = y → A) ∧ (¬ x = y → B) := by
  subst hx hy
  rw [nI_eq ha hb]
  exact ⟨f, g⟩
theorem pk_in {x : Int32} (n N : Nat) (h : n < N) (hx : x = nI n := by rfl) (hN : N < 2 ^ 31 := by omega) : vp_in x N := by
  subst hx
  exact vp_in_nI h hN
theorem pk_cl {x : Int32} (n : Nat) (hx : x = nI n := by rfl) (h : n < 2 ^ 31 := by omega) : x.toNatClampNeg = n := by
  subst hx
  exact nI_clamp h
theorem pk_vb (z : Int32) : vp_nar .byte z.toInt8.toInt32 = z.toInt8.toInt32 := by rw [vp_nar_byte]; simp
end
section
/-! sets of atoms as Int32: bits -/
def qs_Sub (x y : Int32) : Prop := ∀ a, bt x a = true → bt y a = true
def qs_Dj (x y : Int32) : Prop := ∀ a, bt x a = true → bt y a = true → False
def qs_Sm (x : Int32) : Prop := ∀ a, bt x a = true → a < 6
theorem qs_ft {c : Bool} (h : ¬ c = false) : c = true := by cases c <;> simp_all
theorem qs_tf {c : Bool} (h : ¬ c = true) : c = false := by cases c <;> simp_all
theorem qs_lt32 {x : Int32} {a : Nat} (h : bt x a = true) : a < 32 := by
  rcases Nat.lt_or_ge a 32 with g | g
  · exact g
  · rw [b_big g] at h; cases h
theorem qs_bnot {x : Int32} {a : Nat} (h : a < 32) : bt (x ^^^ (-1)) a = !(bt x a) := by
  rw [b_xor, b_m1 a h]; cases bt x a <;> rfl
theorem qs_z {x : Int32} : x = 0 ↔ ∀ a, bt x a = false := by
  constructor
  · intro h a; rw [h, b_0]
  · intro h; exact b_ext (fun a _ => by rw [h a, b_0])
theorem qs_sub0 {p s : Int32} : (p &&& (s ^^^ (-1))) = 0 ↔ qs_Sub p s := by
  rw [qs_z]
  constructor
  · intro h a ha
    have h1 := h a
    rw [b_and, qs_bnot (qs_lt32 ha), ha] at h1
    cases hb : bt s a
    · rw [hb] at h1; cases h1
    · rfl
  · intro h a
    rw [b_and]
    rcases Nat.lt_or_ge a 32 with g | g
    · rw [qs_bnot g]
      cases hp : bt p a
      · rfl
      · rw [h a hp]; rfl
    · rw [b_big g]; rfl
theorem qs_dj0 {p s : Int32} : (p &&& s) = 0 ↔ qs_Dj p s := by
  rw [qs_z]
  constructor
  · intro h a ha hb
    have h1 := h a
    rw [b_and, ha, hb] at h1
    cases h1
  · intro h a
    rw [b_and]
    cases hp : bt p a
    · rfl
    · cases hb : bt s a
      · rfl
      · exact absurd hb (fun z => h a hp z)
theorem qs_b1 : ∀ a, a < 32 → bt 1 a = decide (a = 0) := by decide +kernel
theorem qs_bitb {x : Int32} {h : Nat} (hh : h < 32) (a : Nat) : bt ((x >>> (nI h &&& 31)) &&& 1) a = (decide (a = 0) && bt x h) := by
  rw [b_and]
  rcases Nat.lt_or_ge a 32 with g | g
  · rw [qs_b1 a g, b_sshr h hh x g]
    by_cases e : a = 0
    · subst e; simp [hh]
    · simp [e]
  · rw [b_big g, decide_eq_false (by omega)]; rfl
theorem qs_bitv {x : Int32} {h : Nat} (hh : h < 32) : ((x >>> (nI h &&& 31)) &&& 1) = nI (bt x h).toNat := by
  apply b_ext
  intro a ha
  rw [qs_bitb hh a]
  cases bt x h
  · rw [Bool.and_false]; exact (b_0 a).symm
  · rw [Bool.and_true]; exact (qs_b1 a ha).symm
theorem qs_bit0 {x : Int32} {h : Nat} (hh : h < 32) : ((x >>> (nI h &&& 31)) &&& 1) = 0 ↔ bt x h = false := by
  rw [qs_bitv hh]
  cases bt x h
  · exact ⟨fun _ => rfl, fun _ => rfl⟩
  · exact ⟨fun z => absurd z (by decide), fun z => by cases z⟩
theorem qs_bit1 {x : Int32} {h : Nat} (hh : h < 32) : ((x >>> (nI h &&& 31)) &&& 1) = 1 ↔ bt x h = true := by
  rw [qs_bitv hh]
  cases bt x h
  · exact ⟨fun z => absurd z (by decide), fun z => by cases z⟩
  · exact ⟨fun _ => rfl, fun _ => rfl⟩
theorem qs_one {h : Nat} (hh : h < 32) (a : Nat) : bt ((1 : Int32) <<< (nI h &&& 31)) a = decide (a = h) := by
  rcases Nat.lt_or_ge a 32 with g | g
  · rw [b_shl h hh 1 g]
    rcases Nat.lt_or_ge a h with k | k
    · rw [decide_eq_false (by omega), decide_eq_false (by omega)]; rfl
    · rw [decide_eq_true k, qs_b1 (a - h) (by omega)]
      by_cases e : a = h
      · subst e; simp
      · rw [decide_eq_false (by omega), decide_eq_false e]; rfl
  · rw [b_big g, decide_eq_false (by omega)]
theorem qs_put {s : Int32} {h : Nat} (hh : h < 32) {a : Nat} : bt (s ||| ((1 : Int32) <<< (nI h &&& 31))) a = true ↔ bt s a = true ∨ a = h := by
  rw [b_or, qs_one hh, Bool.or_eq_true, decide_eq_true_iff]
theorem qs_or {x y : Int32} {a : Nat} : bt (x ||| y) a = true ↔ bt x a = true ∨ bt y a = true := by
  rw [b_or, Bool.or_eq_true]
theorem qs_refl {x : Int32} : qs_Sub x x := fun _ h => h
theorem qs_tr {x y z : Int32} (h : qs_Sub x y) (g : qs_Sub y z) : qs_Sub x z := fun a k => g a (h a k)
theorem qs_anti {x y : Int32} (h : qs_Sub x y) (g : qs_Sub y x) : x = y := by
  apply b_ext
  intro a _
  cases hx : bt x a
  · cases hy : bt y a
    · rfl
    · rw [g a hy] at hx; cases hx
  · exact (h a hx).symm
theorem qs_orl {x y : Int32} : qs_Sub x (x ||| y) := fun _ h => qs_or.mpr (Or.inl h)
theorem qs_orr {x y : Int32} : qs_Sub y (x ||| y) := fun _ h => qs_or.mpr (Or.inr h)
theorem qs_smor {x y : Int32} (h : qs_Sm x) (g : qs_Sm y) : qs_Sm (x ||| y) := fun a k => (qs_or.mp k).elim (h a) (g a)
theorem qs_smand {x y : Int32} (h : qs_Sm x) : qs_Sm (x &&& y) := fun a k => h a (by rw [b_and, Bool.and_eq_true] at k; exact k.1)
theorem qs_smone {h : Nat} (hh : h < 6) : qs_Sm ((1 : Int32) <<< (nI h &&& 31)) := fun a k => by
  rw [qs_one (by omega), decide_eq_true_iff] at k; omega
theorem qs_sm0 : qs_Sm 0 := fun a k => by rw [b_0] at k; cases k
theorem qs_smsub {x y : Int32} (h : qs_Sub x y) (g : qs_Sm y) : qs_Sm x := fun a k => g a (h a k)
theorem qs_diff {p s : Int32} {a : Nat} : bt (p &&& (s ^^^ (-1))) a = true ↔ bt p a = true ∧ bt s a = false := by
  rw [b_and, Bool.and_eq_true]
  constructor
  · intro ⟨h, g⟩
    rw [qs_bnot (qs_lt32 h)] at g
    refine ⟨h, ?_⟩
    cases hb : bt s a
    · rfl
    · rw [hb] at g; cases g
  · intro ⟨h, g⟩
    refine ⟨h, ?_⟩
    rw [qs_bnot (qs_lt32 h), g]; rfl
theorem qs_63a : ∀ a, a < 32 → bt 63 a = decide (a < 6) := by decide +kernel
theorem qs_63 (a : Nat) : bt 63 a = true ↔ a < 6 := by
  rcases Nat.lt_or_ge a 32 with g | g
  · rw [qs_63a a g, decide_eq_true_iff]
  · rw [b_big g]; constructor
    · intro z; cases z
    · intro z; omega
theorem qs_sm63 : qs_Sm 63 := fun a k => (qs_63 a).mp k
/-! numbers below 64 -/
theorem qs_nI64 : ∀ k, k < 64 → ∀ a, a < 32 → bt (nI k) a = true → a < 6 := by decide +kernel
theorem qs_smN {k : Nat} (h : k < 64) : qs_Sm (nI k) := fun a g => qs_nI64 k h a (qs_lt32 g) g
theorem qs_Nof {x : Int32} (h : qs_Sm x) : ∃ k, k < 64 ∧ x = nI k := by
  refine ⟨x.toBitVec.toNat, ?_, ?_⟩
  · have hb : ∀ j, j ≥ 6 → x.toBitVec.toNat.testBit j = false := by
      intro j hj
      apply Bool.eq_false_iff.mpr
      intro z
      have := h j z
      omega
    exact Nat.lt_pow_two_of_testBit (n := 6) _ hb
  · apply Int32.toBitVec_inj.mp
    show _ = BitVec.ofNat 32 _
    simp
theorem qs_nar : ∀ k, k < 64 → vp_nar .byte (nI k).toInt8.toInt32 = nI k := by
  intro k hk
  rw [pk_vb]
  exact (by decide +kernel : ∀ k, k < 64 → (nI k).toInt8.toInt32 = nI k) k hk
theorem qs_narS {x : Int32} (h : qs_Sm x) : vp_nar .byte x.toInt8.toInt32 = x := by
  obtain ⟨k, hk, rfl⟩ := qs_Nof h
  exact qs_nar k hk
/-! counting -/
def qs_ct (x : Int32) : Nat → Nat
  | 0 => 0
  | a + 1 => qs_ct x a + (bt x a).toNat
def qs_cn (x : Int32) : Nat := qs_ct x 6
theorem qs_cnE (x : Int32) : qs_cn x = (bt x 0).toNat + (bt x 1).toNat + (bt x 2).toNat + (bt x 3).toNat + (bt x 4).toNat + (bt x 5).toNat := by
  simp only [qs_cn, qs_ct, Nat.zero_add]
theorem qs_tn {a c : Bool} (h : a = true → c = true) : a.toNat ≤ c.toNat := by cases a <;> cases c <;> simp_all
theorem qs_t1 (a : Bool) : a.toNat ≤ 1 := by cases a <;> simp
theorem qs_cnle {x y : Int32} (h : qs_Sub x y) : qs_cn x ≤ qs_cn y := by
  rw [qs_cnE, qs_cnE]
  have h0 := qs_tn (h 0); have h1 := qs_tn (h 1); have h2 := qs_tn (h 2)
  have h3 := qs_tn (h 3); have h4 := qs_tn (h 4); have h5 := qs_tn (h 5)
  omega
theorem qs_6 {P : Nat → Prop} (h0 : P 0) (h1 : P 1) (h2 : P 2) (h3 : P 3) (h4 : P 4) (h5 : P 5) : ∀ a, a < 6 → P a := by
  intro a ha
  match a, ha with
  | 0, _ => exact h0
  | 1, _ => exact h1
  | 2, _ => exact h2
  | 3, _ => exact h3
  | 4, _ => exact h4
  | 5, _ => exact h5
theorem qs_cnlt {x y : Int32} (h : qs_Sub x y) {a : Nat} (ha : a < 6) (hx : bt x a = false) (hy : bt y a = true) : qs_cn x < qs_cn y := by
  have e1 : (bt x a).toNat = 0 := by rw [hx]; rfl
  have e2 : (bt y a).toNat = 1 := by rw [hy]; rfl
  clear hx hy
  rw [qs_cnE, qs_cnE]
  have h0 := qs_tn (h 0); have h1 := qs_tn (h 1); have h2 := qs_tn (h 2)
  have h3 := qs_tn (h 3); have h4 := qs_tn (h 4); have h5 := qs_tn (h 5)
  refine (?_ : ∀ c, c < 6 → (bt x c).toNat = 0 → (bt y c).toNat = 1 → _) a ha e1 e2
  refine qs_6 ?_ ?_ ?_ ?_ ?_ ?_ <;> omega
theorem qs_dn {a c : Bool} (h : a = true → c = true → False) : a.toNat + c.toNat ≤ 1 := by cases a <;> cases c <;> simp_all
theorem qs_cndj {x y : Int32} (h : qs_Dj x y) : qs_cn x + qs_cn y ≤ 6 := by
  rw [qs_cnE, qs_cnE]
  have h0 := qs_dn (h 0); have h1 := qs_dn (h 1); have h2 := qs_dn (h 2)
  have h3 := qs_dn (h 3); have h4 := qs_dn (h 4); have h5 := qs_dn (h 5)
  omega
theorem qs_cndj5 {x y : Int32} (h : qs_Dj x y) {a : Nat} (ha : a < 6) (hx : bt x a = false) (hy : bt y a = false) : qs_cn x + qs_cn y ≤ 5 := by
  have e1 : (bt x a).toNat = 0 := by rw [hx]; rfl
  have e2 : (bt y a).toNat = 0 := by rw [hy]; rfl
  clear hx hy
  rw [qs_cnE, qs_cnE]
  have h0 := qs_dn (h 0); have h1 := qs_dn (h 1); have h2 := qs_dn (h 2)
  have h3 := qs_dn (h 3); have h4 := qs_dn (h 4); have h5 := qs_dn (h 5)
  refine (?_ : ∀ c, c < 6 → (bt x c).toNat = 0 → (bt y c).toNat = 0 → _) a ha e1 e2
  refine qs_6 ?_ ?_ ?_ ?_ ?_ ?_ <;> omega
theorem qs_n1 {a : Bool} (h : 1 ≤ a.toNat) : a = true := by cases a <;> simp_all
theorem qs_cn6 {x : Int32} (h : 6 ≤ qs_cn x) : ∀ a, a < 6 → bt x a = true := by
  rw [qs_cnE] at h
  have h0 := qs_t1 (bt x 0); have h1 := qs_t1 (bt x 1); have h2 := qs_t1 (bt x 2)
  have h3 := qs_t1 (bt x 3); have h4 := qs_t1 (bt x 4); have h5 := qs_t1 (bt x 5)
  refine qs_6 ?_ ?_ ?_ ?_ ?_ ?_ <;> exact qs_n1 (by omega)
theorem qs_n0 {a : Bool} (h : a.toNat = 0) : a = false := by cases a <;> simp_all
theorem qs_cn0 {x : Int32} (hs : qs_Sm x) (h : qs_cn x = 0) : x = 0 := by
  rw [qs_cnE] at h
  have hh : ∀ a, a < 6 → bt x a = false := by
    refine qs_6 ?_ ?_ ?_ ?_ ?_ ?_ <;> exact qs_n0 (by omega)
  apply qs_z.mpr
  intro a
  apply qs_tf
  intro z
  rw [hh a (hs a z)] at z
  cases z
theorem qs_cn1a {x : Int32} (h : qs_cn x ≤ 1) : ∀ a, a < 6 → ∀ c, c < 6 → a ≠ c → (bt x a).toNat = 1 → (bt x c).toNat = 1 → False := by
  rw [qs_cnE] at h
  refine qs_6 ?_ ?_ ?_ ?_ ?_ ?_ <;> refine qs_6 ?_ ?_ ?_ ?_ ?_ ?_ <;> omega
theorem qs_cn1 {x : Int32} (hs : qs_Sm x) (h : qs_cn x ≤ 1) {a c : Nat} (ha : bt x a = true) (hc : bt x c = true) : a = c := by
  by_cases e : a = c
  · exact e
  · exact (qs_cn1a h a (hs a ha) c (hs c hc) e (by rw [ha]; rfl) (by rw [hc]; rfl)).elim
theorem qs_cnz : qs_cn 0 = 0 := by rw [qs_cnE]; simp only [b_0]; rfl
theorem qs_cnle6 (x : Int32) : qs_cn x ≤ 6 := by
  rw [qs_cnE]
  have h0 := qs_t1 (bt x 0); have h1 := qs_t1 (bt x 1); have h2 := qs_t1 (bt x 2)
  have h3 := qs_t1 (bt x 3); have h4 := qs_t1 (bt x 4); have h5 := qs_t1 (bt x 5)
  omega
/-! all atoms settled -/
theorem qs_all {x y : Int32} (hx : qs_Sm x) (hy : qs_Sm y) : (x ||| y) = 63 ↔ ∀ a, a < 6 → bt x a = true ∨ bt y a = true := by
  constructor
  · intro h a ha
    have := (qs_63 a).mpr ha
    rw [← h] at this
    exact qs_or.mp this
  · intro h
    apply qs_anti
    · intro a ha
      exact (qs_63 a).mpr ((qs_or.mp ha).elim (hx a) (hy a))
    · intro a ha
      exact qs_or.mpr (h a ((qs_63 a).mp ha))
theorem qs_nall {x y : Int32} (hx : qs_Sm x) (hy : qs_Sm y) (h : ¬ (x ||| y) = 63) : ∃ a, a < 6 ∧ bt x a = false ∧ bt y a = false := by
  apply Classical.byContradiction
  intro z
  apply h
  rw [qs_all hx hy]
  intro a ha
  cases e : bt x a
  · right
    apply qs_ft
    intro g
    exact z ⟨a, ha, e, g⟩
  · left; rfl
/-! an 'if' over a proposition -/
noncomputable def qs_if (P : Prop) (x y : Int32) : Int32 := @ite Int32 P (Classical.propDecidable P) x y
theorem qs_ift {P : Prop} {x y : Int32} (h : P) : qs_if P x y = x := by unfold qs_if; rw [if_pos h]
theorem qs_iff {P : Prop} {x y : Int32} (h : ¬ P) : qs_if P x y = y := by unfold qs_if; rw [if_neg h]
end
section
/-! least closed sets by six passes over ten rules: en r says that rule r may fire, ps r its positive body, hd r its head -/
def qs_hn (hd : Nat → Int32) (r : Nat) : Nat := (hd r).toNatClampNeg
def qs_H (hd : Nat → Int32) : Prop := ∀ r, r < 10 → qs_hn hd r < 6 ∧ hd r = nI (qs_hn hd r)
section
variable {en : Nat → Prop} {hd ps : Nat → Int32}
noncomputable def qs_st (en : Nat → Prop) (hd ps : Nat → Int32) (s : Int32) (r : Nat) : Int32 :=
  qs_if (en r ∧ qs_Sub (ps r) s) (s ||| ((1 : Int32) <<< (hd r &&& 31))) s
noncomputable def qs_pa (en : Nat → Prop) (hd ps : Nat → Int32) (s : Int32) : Nat → Int32
  | 0 => s
  | r + 1 => qs_st en hd ps (qs_pa en hd ps s r) r
noncomputable def qs_it (en : Nat → Prop) (hd ps : Nat → Int32) : Nat → Int32
  | 0 => 0
  | k + 1 => qs_pa en hd ps (qs_it en hd ps k) 10
noncomputable def qs_lf (en : Nat → Prop) (hd ps : Nat → Int32) : Int32 := qs_it en hd ps 6
def qs_Cl (en : Nat → Prop) (hd ps : Nat → Int32) (s : Int32) : Prop := ∀ r, r < 10 → en r → qs_Sub (ps r) s → bt s (qs_hn hd r) = true
theorem qs_st_t {s : Int32} {r : Nat} (h : en r) (g : qs_Sub (ps r) s) : qs_st en hd ps s r = s ||| ((1 : Int32) <<< (hd r &&& 31)) := qs_ift ⟨h, g⟩
theorem qs_st_f {s : Int32} {r : Nat} (h : ¬ (en r ∧ qs_Sub (ps r) s)) : qs_st en hd ps s r = s := qs_iff h
theorem qs_st_up {s : Int32} {r : Nat} : qs_Sub s (qs_st en hd ps s r) := by
  by_cases h : en r ∧ qs_Sub (ps r) s
  · rw [qs_st_t h.1 h.2]; exact qs_orl
  · rw [qs_st_f h]; exact qs_refl
theorem qs_st_in (H : qs_H hd) {s T : Int32} {r : Nat} (hr : r < 10) (hs : qs_Sub s T) (hc : en r → qs_Sub (ps r) T → bt T (qs_hn hd r) = true) : qs_Sub (qs_st en hd ps s r) T := by
  by_cases h : en r ∧ qs_Sub (ps r) s
  · rw [qs_st_t h.1 h.2]
    intro a ha
    rw [(H r hr).2] at ha
    rcases (qs_put (Nat.lt_trans (H r hr).1 (by decide))).mp ha with g | g
    · exact hs a g
    · rw [g]; exact hc h.1 (qs_tr h.2 hs)
  · rw [qs_st_f h]; exact hs
theorem qs_pa_up1 {s : Int32} (r d : Nat) : qs_Sub (qs_pa en hd ps s r) (qs_pa en hd ps s (r + d)) := by
  induction d with
  | zero => exact qs_refl
  | succ d ih => exact qs_tr ih qs_st_up
theorem qs_pa_in (H : qs_H hd) {s T : Int32} (hs : qs_Sub s T) (hc : qs_Cl en hd ps T) : ∀ r, r ≤ 10 → qs_Sub (qs_pa en hd ps s r) T := by
  intro r
  induction r with
  | zero => intro _; exact hs
  | succ r ih => intro hr; exact qs_st_in H (by omega) (ih (by omega)) (hc r (by omega))
theorem qs_pa_fire (H : qs_H hd) {s : Int32} {r : Nat} (hr : r < 10) (he : en r) (hp : qs_Sub (ps r) s) : bt (qs_pa en hd ps s 10) (qs_hn hd r) = true := by
  have h0 : qs_Sub s (qs_pa en hd ps s r) := by have := qs_pa_up1 (en := en) (hd := hd) (ps := ps) (s := s) 0 r; rw [Nat.zero_add] at this; exact this
  have h1 : bt (qs_pa en hd ps s (r + 1)) (qs_hn hd r) = true := by
    show bt (qs_st en hd ps (qs_pa en hd ps s r) r) _ = true
    rw [qs_st_t he (qs_tr hp h0), (H r hr).2]
    exact (qs_put (Nat.lt_trans (H r hr).1 (by decide))).mpr (Or.inr rfl)
  have h2 := qs_pa_up1 (en := en) (hd := hd) (ps := ps) (s := s) (r + 1) (9 - r)
  rw [show r + 1 + (9 - r) = 10 by omega] at h2
  exact h2 _ h1
theorem qs_it_in (H : qs_H hd) {T : Int32} (hc : qs_Cl en hd ps T) : ∀ k, qs_Sub (qs_it en hd ps k) T := by
  intro k
  induction k with
  | zero => intro a ha; rw [show qs_it en hd ps 0 = 0 from rfl, b_0] at ha; cases ha
  | succ k ih => exact qs_pa_in H ih hc 10 (by omega)
theorem qs_it_grow (H : qs_H hd) : ∀ k, qs_Cl en hd ps (qs_it en hd ps k) ∨ k ≤ qs_cn (qs_it en hd ps k) := by
  intro k
  induction k with
  | zero => exact Or.inr (Nat.zero_le _)
  | succ k ih =>
    by_cases hc : qs_Cl en hd ps (qs_it en hd ps k)
    · left
      have e : qs_it en hd ps (k + 1) = qs_it en hd ps k := by
        apply qs_anti
        · exact qs_pa_in H qs_refl hc 10 (by omega)
        · have := qs_pa_up1 (en := en) (hd := hd) (ps := ps) (s := qs_it en hd ps k) 0 10
          exact this
      rw [e]; exact hc
    · right
      have hk : k ≤ qs_cn (qs_it en hd ps k) := ih.resolve_left hc
      have : ∃ r, r < 10 ∧ en r ∧ qs_Sub (ps r) (qs_it en hd ps k) ∧ bt (qs_it en hd ps k) (qs_hn hd r) = false := by
        apply Classical.byContradiction
        intro z
        apply hc
        intro r hr he hp
        apply qs_ft
        intro g
        exact z ⟨r, hr, he, hp, g⟩
      obtain ⟨r, hr, he, hp, hf⟩ := this
      have h1 := qs_pa_fire H hr he hp
      have h2 : qs_Sub (qs_it en hd ps k) (qs_it en hd ps (k + 1)) := qs_pa_up1 (en := en) (hd := hd) (ps := ps) (s := qs_it en hd ps k) 0 10
      have := qs_cnlt h2 (H r hr).1 hf h1
      omega
theorem qs_lf_cl (H : qs_H hd) : qs_Cl en hd ps (qs_lf en hd ps) := by
  rcases qs_it_grow (en := en) (ps := ps) H 6 with h | h
  · exact h
  · intro r hr _ _
    exact qs_cn6 h _ (H r hr).1
theorem qs_lf_in (H : qs_H hd) {T : Int32} (hc : qs_Cl en hd ps T) : qs_Sub (qs_lf en hd ps) T := qs_it_in H hc 6
theorem qs_lf_sm (H : qs_H hd) : qs_Sm (qs_lf en hd ps) := qs_smsub (qs_lf_in H (T := 63) (fun r hr _ _ => (qs_63 _).mpr (H r hr).1)) qs_sm63
/-- what the least set holds is brought in by a rule whose body lies in it -/
theorem qs_lf_why (H : qs_H hd) {a : Nat} (ha : bt (qs_lf en hd ps) a = true) : ∃ r, r < 10 ∧ en r ∧ qs_Sub (ps r) (qs_lf en hd ps) ∧ qs_hn hd r = a := by
  apply Classical.byContradiction
  intro z
  have ha6 : a < 32 := qs_lt32 ha
  have hc : qs_Cl en hd ps (qs_lf en hd ps &&& (((1 : Int32) <<< (nI a &&& 31)) ^^^ (-1))) := by
    intro r hr he hp
    have hp' : qs_Sub (ps r) (qs_lf en hd ps) := fun c hc => (qs_diff.mp (hp c hc)).1
    refine qs_diff.mpr ⟨qs_lf_cl H r hr he hp', ?_⟩
    rw [qs_one ha6, decide_eq_false_iff_not]
    intro g
    exact z ⟨r, hr, he, hp', g⟩
  have := (qs_diff.mp (qs_lf_in H hc a ha)).2
  rw [qs_one ha6, decide_eq_false_iff_not] at this
  exact this rfl
end
/-! the program's rules: pr which are there; kinds, heads, positive and negative bodies -/
def qs_Good (M i o : Int32) : Prop := qs_Sub i M ∧ qs_Dj o M
section
variable {pr : Int32} {kd hd ps ng : Nat → Int32}
def qs_V (kd hd ps ng : Nat → Int32) : Prop := ∀ r, r < 10 → (kd r = 0 ∨ kd r = 1 ∨ kd r = 2) ∧ (qs_hn hd r < 6 ∧ hd r = nI (qs_hn hd r)) ∧ qs_Sm (ps r) ∧ qs_Sm (ng r)
theorem qs_VH (V : qs_V kd hd ps ng) : qs_H hd := fun r hr => (V r hr).2.1
def qs_enS (pr : Int32) (kd hd ng : Nat → Int32) (m : Int32) (r : Nat) : Prop := bt pr r = true ∧ kd r ≠ 2 ∧ qs_Dj (ng r) m ∧ (kd r = 0 ∨ bt m (qs_hn hd r) = true)
def qs_enF (pr : Int32) (kd hd ps ng : Nat → Int32) (i o : Int32) (r : Nat) : Prop := bt pr r = true ∧ kd r ≠ 2 ∧ (qs_Dj (ps r) o ∧ qs_Dj (ng r) i) ∧ bt o (qs_hn hd r) = false
noncomputable def qs_sup (pr : Int32) (kd hd ps ng : Nat → Int32) (m : Int32) : Int32 := qs_lf (qs_enS pr kd hd ng m) hd ps
noncomputable def qs_fou (pr : Int32) (kd hd ps ng : Nat → Int32) (i o : Int32) : Int32 := qs_lf (qs_enF pr kd hd ps ng i o) hd ps
def qs_ban (pr : Int32) (kd ps ng : Nat → Int32) (m : Int32) (r : Nat) : Prop := bt pr r = true ∧ kd r = 2 ∧ qs_Sub (ps r) m ∧ qs_Dj (ng r) m
def qs_Stb (pr : Int32) (kd hd ps ng : Nat → Int32) (m : Int32) : Prop := qs_sup pr kd hd ps ng m = m ∧ ∀ r, r < 10 → ¬ qs_ban pr kd ps ng m r
/-- what a search may use of a stable set -/
def qs_TS (pr : Int32) (kd hd ps ng : Nat → Int32) (T : Int32 → Prop) : Prop := ∀ M, T M →
  qs_Sm M ∧ (∀ r, r < 10 → bt pr r = true → kd r = 0 → qs_Sub (ps r) M → qs_Dj (ng r) M → bt M (qs_hn hd r) = true)
  ∧ (∀ r, r < 10 → bt pr r = true → kd r = 2 → qs_Sub (ps r) M → qs_Dj (ng r) M → False)
  ∧ (∀ a, bt M a = true → ∃ r, r < 10 ∧ bt pr r = true ∧ kd r ≠ 2 ∧ qs_hn hd r = a ∧ qs_Sub (ps r) M ∧ qs_Dj (ng r) M)
  ∧ (∀ i o, qs_Good M i o → qs_Sub M (qs_fou pr kd hd ps ng i o))
theorem qs_ts (V : qs_V kd hd ps ng) : qs_TS pr kd hd ps ng (qs_Stb pr kd hd ps ng) := by
  intro M ⟨hM, hB⟩
  have H := qs_VH V
  have hcl := qs_lf_cl (en := qs_enS pr kd hd ng M) (ps := ps) H
  rw [show qs_lf (qs_enS pr kd hd ng M) hd ps = M from hM] at hcl
  refine ⟨?_, ?_, ?_, ?_, ?_⟩
  · rw [← hM]; exact qs_lf_sm H
  · intro r hr h1 h2 h3 h4
    exact hcl r hr ⟨h1, by rw [h2]; decide, h4, Or.inl h2⟩ h3
  · intro r hr h1 h2 h3 h4
    exact hB r hr ⟨h1, h2, h3, h4⟩
  · intro a ha
    rw [← hM] at ha
    obtain ⟨r, hr, he, hp, hh⟩ := qs_lf_why H ha
    rw [show qs_lf (qs_enS pr kd hd ng M) hd ps = M from hM] at hp
    exact ⟨r, hr, he.1, he.2.1, hh, hp, he.2.2.1⟩
  · intro i o hg
    have hc : qs_Cl (qs_enS pr kd hd ng M) hd ps (M &&& qs_fou pr kd hd ps ng i o) := by
      intro r hr he hp
      have hp1 : qs_Sub (ps r) M := fun a ha => by have := hp a ha; rw [b_and, Bool.and_eq_true] at this; exact this.1
      have hp2 : qs_Sub (ps r) (qs_fou pr kd hd ps ng i o) := fun a ha => by have := hp a ha; rw [b_and, Bool.and_eq_true] at this; exact this.2
      have hh : bt M (qs_hn hd r) = true := hcl r hr he hp1
      have hf : qs_enF pr kd hd ps ng i o r := by
        refine ⟨he.1, he.2.1, ⟨?_, ?_⟩, ?_⟩
        · intro a ha hb; exact hg.2 a hb (hp1 a ha)
        · intro a ha hb; exact he.2.2.1 a ha (hg.1 a hb)
        · apply qs_tf; intro z; exact hg.2 _ z hh
      rw [b_and, hh, show bt (qs_fou pr kd hd ps ng i o) (qs_hn hd r) = true from qs_lf_cl H r hr hf hp2]; rfl
    have h1 := qs_lf_in H hc
    rw [show qs_lf (qs_enS pr kd hd ng M) hd ps = M from hM] at h1
    intro a ha
    have := h1 a ha
    rw [b_and, Bool.and_eq_true] at this
    exact this.2
/-- what a search knows at its end -/
def qs_Fw (pr : Int32) (kd hd ps ng : Nat → Int32) (i o : Int32) (r : Nat) : Prop := bt pr r = true → qs_Sub (ps r) i → qs_Sub (ng r) o → kd r ≠ 2 ∧ (kd r = 0 → bt i (qs_hn hd r) = true)
def qs_Fix (pr : Int32) (kd hd ps ng : Nat → Int32) (i o : Int32) : Prop := (∀ r, r < 10 → qs_Fw pr kd hd ps ng i o r) ∧ ∀ a, a < 6 → bt (qs_fou pr kd hd ps ng i o) a = false → bt o a = true
theorem qs_end (V : qs_V kd hd ps ng) {i o : Int32} (hi : qs_Sm i) (hd' : qs_Dj i o) (ht : ∀ a, a < 6 → bt i a = true ∨ bt o a = true) (hF : qs_Fix pr kd hd ps ng i o) : qs_Stb pr kd hd ps ng i := by
  have H := qs_VH V
  have ho : ∀ r, r < 10 → qs_Dj (ng r) i → qs_Sub (ng r) o := fun r hr h a ha => (ht a ((V r hr).2.2.2 a ha)).elim (fun z => (h a ha z).elim) id
  refine ⟨?_, ?_⟩
  · apply qs_anti
    · apply qs_lf_in H
      intro r hr he hp
      rcases he.2.2.2 with h0 | h1
      · exact (hF.1 r hr he.1 hp (ho r hr he.2.2.1)).2 h0
      · exact h1
    · have h1 : qs_Sub i (qs_fou pr kd hd ps ng i o) := by
        intro a ha
        apply qs_ft
        intro z
        exact hd' a ha (hF.2 a (hi a ha) z)
      refine qs_tr h1 ?_
      apply qs_lf_in H
      intro r hr he hp
      refine qs_lf_cl H r hr ⟨he.1, he.2.1, he.2.2.1.2, ?_⟩ hp
      right
      rcases ht _ (H r hr).1 with g | g
      · exact g
      · rw [he.2.2.2] at g; cases g
  · intro r hr hb
    exact (hF.1 r hr hb.1 hb.2.2.1 (ho r hr hb.2.2.2)).1 hb.2.1
end
end
section
/-! what a step of drawing conclusions keeps: in, out, broken, moved -/
def qs_Ok (i o b : Int32) : Prop := qs_Sm i ∧ qs_Sm o ∧ (b = 0 ∨ b = 1) ∧ (b = 0 → qs_Dj i o)
def qs_Stp (T : Int32 → Prop) (i o b v i' o' b' v' : Int32) : Prop :=
  qs_Ok i' o' b' ∧ qs_Sub i i' ∧ qs_Sub o o' ∧ (b' = 0 → b = 0) ∧ (v' = 0 → v = 0 ∧ i' = i ∧ o' = o)
  ∧ (v' ≠ 0 → v ≠ 0 ∨ qs_cn i + qs_cn o < qs_cn i' + qs_cn o') ∧ (∀ M, T M → b = 0 → qs_Good M i o → b' = 0 ∧ qs_Good M i' o')
section
variable {T : Int32 → Prop} {i o b v i' o' b' v' i2 o2 b2 v2 a : Int32}
theorem qs_stp_refl (h : qs_Ok i o b) : qs_Stp T i o b v i o b v :=
  ⟨h, qs_refl, qs_refl, id, fun z => ⟨z, rfl, rfl⟩, fun z => Or.inl z, fun _ _ z g => ⟨z, g⟩⟩
theorem qs_stp_tr (h : qs_Stp T i o b v i' o' b' v') (g : qs_Stp T i' o' b' v' i2 o2 b2 v2) : qs_Stp T i o b v i2 o2 b2 v2 := by
  obtain ⟨_, h2, h3, h4, h5, h6, h7⟩ := h
  obtain ⟨g1, g2, g3, g4, g5, g6, g7⟩ := g
  refine ⟨g1, qs_tr h2 g2, qs_tr h3 g3, fun z => h4 (g4 z), ?_, ?_, ?_⟩
  · intro z
    obtain ⟨z1, e1, e2⟩ := g5 z
    obtain ⟨z2, e3, e4⟩ := h5 z1
    exact ⟨z2, e1.trans e3, e2.trans e4⟩
  · intro z
    have c1 := qs_cnle h2; have c2 := qs_cnle h3; have c3 := qs_cnle g2; have c4 := qs_cnle g3
    by_cases e : v' = 0
    · rcases g6 z with q | q
      · exact absurd e q
      · right; omega
    · rcases h6 e with q | q
      · exact Or.inl q
      · right; omega
  · intro M hM hb hg
    obtain ⟨z, hg'⟩ := h7 M hM hb hg
    exact g7 M hM z hg'
theorem qs_stp_brk (h : qs_Ok i o b) (hn : ∀ M, T M → b = 0 → qs_Good M i o → False) : qs_Stp T i o b v i o 1 v := by
  refine ⟨⟨h.1, h.2.1, Or.inr rfl, fun z => absurd z (by decide)⟩, qs_refl, qs_refl, fun z => absurd z (by decide), fun z => ⟨z, rfl, rfl⟩, fun z => Or.inl z, ?_⟩
  intro M hM hb hg
  exact (hn M hM hb hg).elim
theorem qs_nsub {x y : Int32} (h : ¬ qs_Sub x y) : ∃ c, bt x c = true ∧ bt y c = false := by
  apply Classical.byContradiction
  intro z
  apply h
  intro c hc
  apply qs_ft
  intro g
  exact z ⟨c, hc, g⟩
theorem qs_inB (h : qs_Ok i o b) (ha : qs_Sm a) (hM : ∀ M, T M → b = 0 → qs_Good M i o → qs_Sub a M) (e : ¬ qs_Sub a i) (d : qs_Dj (i ||| a) o) : qs_Stp T i o b v (i ||| a) o b 1 := by
  obtain ⟨c, c1, c2⟩ := qs_nsub e
  have hl : qs_cn i < qs_cn (i ||| a) := qs_cnlt qs_orl (ha c c1) c2 (qs_or.mpr (Or.inr c1))
  refine ⟨⟨qs_smor h.1 ha, h.2.1, h.2.2.1, fun _ => d⟩, qs_orl, qs_refl, id, fun z => absurd z (by decide), fun _ => Or.inr (by omega), ?_⟩
  intro M hT hb hg
  refine ⟨hb, ?_, hg.2⟩
  intro c hc
  exact (qs_or.mp hc).elim (hg.1 c) (hM M hT hb hg c)
theorem qs_inN (h : qs_Ok i o b) (ha : qs_Sm a) (hM : ∀ M, T M → b = 0 → qs_Good M i o → qs_Sub a M) (e : ¬ qs_Sub a i) (d : ¬ qs_Dj (i ||| a) o) : qs_Stp T i o b v (i ||| a) o 1 1 := by
  obtain ⟨c, c1, c2⟩ := qs_nsub e
  have hl : qs_cn i < qs_cn (i ||| a) := qs_cnlt qs_orl (ha c c1) c2 (qs_or.mpr (Or.inr c1))
  refine ⟨⟨qs_smor h.1 ha, h.2.1, Or.inr rfl, fun z => absurd z (by decide)⟩, qs_orl, qs_refl, fun z => absurd z (by decide), fun z => absurd z (by decide), fun _ => Or.inr (by omega), ?_⟩
  intro M hT hb hg
  apply absurd _ d
  intro c hc ho
  exact hg.2 c ho ((qs_or.mp hc).elim (hg.1 c) (hM M hT hb hg c))
theorem qs_outB (h : qs_Ok i o b) (ha : qs_Sm a) (hM : ∀ M, T M → b = 0 → qs_Good M i o → qs_Dj a M) (e : ¬ qs_Sub a o) (d : qs_Dj i (o ||| a)) : qs_Stp T i o b v i (o ||| a) b 1 := by
  obtain ⟨c, c1, c2⟩ := qs_nsub e
  have hl : qs_cn o < qs_cn (o ||| a) := qs_cnlt qs_orl (ha c c1) c2 (qs_or.mpr (Or.inr c1))
  refine ⟨⟨h.1, qs_smor h.2.1 ha, h.2.2.1, fun _ => d⟩, qs_refl, qs_orl, id, fun z => absurd z (by decide), fun _ => Or.inr (by omega), ?_⟩
  intro M hT hb hg
  refine ⟨hb, hg.1, ?_⟩
  intro c hc
  exact (qs_or.mp hc).elim (hg.2 c) (hM M hT hb hg c)
theorem qs_outN (h : qs_Ok i o b) (ha : qs_Sm a) (hM : ∀ M, T M → b = 0 → qs_Good M i o → qs_Dj a M) (e : ¬ qs_Sub a o) (d : ¬ qs_Dj i (o ||| a)) : qs_Stp T i o b v i (o ||| a) 1 1 := by
  obtain ⟨c, c1, c2⟩ := qs_nsub e
  have hl : qs_cn o < qs_cn (o ||| a) := qs_cnlt qs_orl (ha c c1) c2 (qs_or.mpr (Or.inr c1))
  refine ⟨⟨h.1, qs_smor h.2.1 ha, Or.inr rfl, fun z => absurd z (by decide)⟩, qs_refl, qs_orl, fun z => absurd z (by decide), fun z => absurd z (by decide), fun _ => Or.inr (by omega), ?_⟩
  intro M hT hb hg
  apply absurd _ d
  intro c hc ho
  exact (qs_or.mp ho).elim (fun z => hg.2 c z (hg.1 c hc)) (fun z => hM M hT hb hg c z (hg.1 c hc))
theorem qs_okbrk (h : qs_Ok i o b) (d : ¬ qs_Dj i o) : b = 1 := h.2.2.1.resolve_left (fun z => d (h.2.2.2 z))
end
/-! the laws behind forward and backward -/
section
variable {pr : Int32} {kd hd ps ng : Nat → Int32} {T : Int32 → Prop}
theorem qs_unw (TS : qs_TS pr kd hd ps ng T) {M i o : Int32} {r : Nat} (hT : T M) (hr : r < 10) (hp : bt pr r = true) (hg : qs_Good M i o) (hu : kd r = 2 ∨ kd r = 0 ∧ bt o (qs_hn hd r) = true) (h1 : qs_Sub (ps r) M) (h2 : qs_Dj (ng r) M) : False := by
  rcases hu with h | ⟨h, g⟩
  · exact (TS M hT).2.2.1 r hr hp h h1 h2
  · exact hg.2 _ g ((TS M hT).2.1 r hr hp h h1 h2)
theorem qs_fwO (V : qs_V kd hd ps ng) (TS : qs_TS pr kd hd ps ng T) {M i o : Int32} {r : Nat} (hT : T M) (hr : r < 10) (hp : bt pr r = true) (hg : qs_Good M i o) (hu : kd r = 2 ∨ kd r = 0 ∧ bt o (qs_hn hd r) = true)
    (hc : qs_cn (ps r &&& (i ^^^ (-1))) + qs_cn (ng r &&& (o ^^^ (-1))) = 1) : qs_Dj (ps r &&& (i ^^^ (-1))) M := by
  intro c hc1 hcM
  have s1 : qs_Sm (ps r &&& (i ^^^ (-1))) := qs_smand (V r hr).2.2.1
  have s2 : qs_Sm (ng r &&& (o ^^^ (-1))) := qs_smand (V r hr).2.2.2
  have n1 : ¬ qs_cn (ps r &&& (i ^^^ (-1))) = 0 := fun z => by
    have := qs_cn0 s1 z
    rw [this, b_0] at hc1; cases hc1
  have z2 : (ng r &&& (o ^^^ (-1))) = 0 := qs_cn0 s2 (by omega)
  apply qs_unw TS hT hr hp hg hu
  · intro d hd1
    cases hi : bt i d
    · have e := qs_cn1 s1 (by omega) hc1 (qs_diff.mpr ⟨hd1, hi⟩)
      rw [← e]; exact hcM
    · exact hg.1 d hi
  · intro d hd1 hdM
    exact hg.2 d (qs_sub0.mp z2 d hd1) hdM
theorem qs_fwI (V : qs_V kd hd ps ng) (TS : qs_TS pr kd hd ps ng T) {M i o : Int32} {r : Nat} (hT : T M) (hr : r < 10) (hp : bt pr r = true) (hg : qs_Good M i o) (hu : kd r = 2 ∨ kd r = 0 ∧ bt o (qs_hn hd r) = true)
    (hc : qs_cn (ps r &&& (i ^^^ (-1))) + qs_cn (ng r &&& (o ^^^ (-1))) = 1) : qs_Sub (ng r &&& (o ^^^ (-1))) M := by
  intro c hc1
  apply qs_ft
  intro hcM
  have s1 : qs_Sm (ps r &&& (i ^^^ (-1))) := qs_smand (V r hr).2.2.1
  have s2 : qs_Sm (ng r &&& (o ^^^ (-1))) := qs_smand (V r hr).2.2.2
  have n1 : ¬ qs_cn (ng r &&& (o ^^^ (-1))) = 0 := fun z => by
    have := qs_cn0 s2 z
    rw [this, b_0] at hc1; cases hc1
  have z2 : (ps r &&& (i ^^^ (-1))) = 0 := qs_cn0 s1 (by omega)
  apply qs_unw TS hT hr hp hg hu
  · intro d hd1
    exact hg.1 d (qs_sub0.mp z2 d hd1)
  · intro d hd1 hdM
    cases ho : bt o d
    · have e := qs_cn1 s2 (by omega) hc1 (qs_diff.mpr ⟨hd1, ho⟩)
      rw [← e, hcM] at hdM; cases hdM
    · exact hg.2 d ho hdM
/-- a rule that may bring in atom a -/
def qs_El (pr : Int32) (kd hd ps ng : Nat → Int32) (i o : Int32) (a r : Nat) : Prop := bt pr r = true ∧ kd r ≠ 2 ∧ qs_hn hd r = a ∧ qs_Dj (ps r) o ∧ qs_Dj (ng r) i
theorem qs_el (TS : qs_TS pr kd hd ps ng T) {M i o : Int32} {a : Nat} (hT : T M) (hg : qs_Good M i o) (ha : bt i a = true) : ∃ r, r < 10 ∧ qs_El pr kd hd ps ng i o a r ∧ qs_Sub (ps r) M ∧ qs_Dj (ng r) M := by
  obtain ⟨r, hr, h1, h2, h3, h4, h5⟩ := (TS M hT).2.2.2.1 a (hg.1 a ha)
  exact ⟨r, hr, ⟨h1, h2, h3, fun c z1 z2 => hg.2 c z2 (h4 c z1), fun c z1 z2 => h5 c z1 (hg.1 c z2)⟩, h4, h5⟩
end
end
section
/-! the component's small methods -/
section
variable {pr i o b mv kn : Int32} {ms : Int64} {kd hd ps ng lI lO lA lT : Nat → Int32}
theorem qx_b01 {x : Int32} (h : x = 0 ∨ x = 1) : narrow .boolean (.int x) = .int x ∧ fits .boolean (.int x) = true := by
  rcases h with rfl | rfl
  · exact ⟨rfl, by decide⟩
  · exact ⟨rfl, by decide⟩
theorem qx_has {post : Int32 → Prop} {r : Nat} (hr : r < 10) (h1 : bt pr r = true → post 1) (h0 : bt pr r = false → post 0) : wpX_has post (pr, i, o, b, mv, kn, ms, kd, hd, ps, ng, lI, lO, lA, lT) (nI r) :=
  br_f (nI_pos (by omega)) (br_f (nI_ge (b := 10) hr (by decide)) (br_c (fun h => h0 ((qs_bit0 (by omega)).mp h)) (fun h => h1 (qs_ft (fun e => h ((qs_bit0 (by omega)).mpr e))))))
theorem qx_ones4 {post : Int32 → Prop} {x : Int32} (h : post (nI (qs_cn x))) : ∀ d a, a + d = 6 → wX_ones_4 post x (d + 1) (nI (qs_ct x a)) (nI a) := by
  intro d
  induction d with
  | zero =>
    intro a ha
    have e : a = 6 := by omega
    subst e
    exact br_t (nI_le (a := 6) (by omega) (by decide)) h
  | succ d ih =>
    intro a ha
    refine br_f (nI_ge (b := 6) (by omega) (by decide)) (nm_r (e' := nI (qs_ct x (a + 1))) ?_ (nm_r (nI_1 a) (ih (a + 1) (by omega))))
    rw [qs_bitv (by omega), nI_add]
    rfl
theorem qx_ones {post : Int32 → Prop} {x : Int32} (h : post (nI (qs_cn x))) : wpX_ones post x := Exists.intro 7 (qx_ones4 h 6 0 rfl)
theorem qx_bodyHolds {post : Int32 → Prop} {r : Nat} (hr : r < 10) (h1 : qs_Sub (ps r) i → qs_Sub (ng r) o → post 1) (h0 : ¬ (qs_Sub (ps r) i ∧ qs_Sub (ng r) o) → post 0) : wpX_bodyHolds post (pr, i, o, b, mv, kn, ms, kd, hd, ps, ng, lI, lO, lA, lT) (nI r) := by
  have hv : vp_in (nI r) 10 := vp_in_nI hr (by decide)
  unfold wpX_bodyHolds
  dsimp only
  rw [nI_clamp (n := r) (by omega)]
  exact ⟨hv, br_c (fun e => ⟨hv, br_c (fun f => h1 (qs_sub0.mp e) (qs_sub0.mp f)) (fun f => h0 (fun z => f (qs_sub0.mpr z.2)))⟩) (fun e => h0 (fun z => e (qs_sub0.mpr z.1)))⟩
theorem qx_bodyFails {post : Int32 → Prop} {r : Nat} (hr : r < 10) (h0 : qs_Dj (ps r) o ∧ qs_Dj (ng r) i → post 0) (h1 : ¬ (qs_Dj (ps r) o ∧ qs_Dj (ng r) i) → post 1) : wpX_bodyFails post (pr, i, o, b, mv, kn, ms, kd, hd, ps, ng, lI, lO, lA, lT) (nI r) := by
  have hv : vp_in (nI r) 10 := vp_in_nI hr (by decide)
  unfold wpX_bodyFails
  dsimp only
  rw [nI_clamp (n := r) (by omega)]
  exact ⟨hv, br_c (fun e => ⟨hv, br_c (fun f => h0 ⟨qs_dj0.mp e, qs_dj0.mp f⟩) (fun f => h1 (fun z => f (qs_dj0.mpr z.2)))⟩) (fun e => h1 (fun z => e (qs_dj0.mpr z.1)))⟩
theorem qx_in26 {post : SX → Prop} (hb : b = 0 ∨ b = 1) (h1 : qs_Dj i o → post (pr, i, o, b, mv, kn, ms, kd, hd, ps, ng, lI, lO, lA, lT)) (h2 : ¬ qs_Dj i o → post (pr, i, o, 1, mv, kn, ms, kd, hd, ps, ng, lI, lO, lA, lT)) : wX_putIn_26 post pr i o b mv kn ms kd hd ps ng lI lO lA lT := by
  refine br_c (fun e => ?_) (fun e => ?_)
  · refine nm_r (e' := b) (Int32.or_zero) ?_
    exact ⟨(qx_b01 hb).1, (qx_b01 hb).2, h1 (qs_dj0.mp e)⟩
  · refine nm_r (e' := 1) ?_ ⟨(qx_b01 (Or.inr rfl)).1, (qx_b01 (Or.inr rfl)).2, h2 (fun z => e (qs_dj0.mpr z))⟩
    rcases hb with rfl | rfl <;> decide
theorem qx_out26 {post : SX → Prop} (hb : b = 0 ∨ b = 1) (h1 : qs_Dj i o → post (pr, i, o, b, mv, kn, ms, kd, hd, ps, ng, lI, lO, lA, lT)) (h2 : ¬ qs_Dj i o → post (pr, i, o, 1, mv, kn, ms, kd, hd, ps, ng, lI, lO, lA, lT)) : wX_putOut_26 post pr i o b mv kn ms kd hd ps ng lI lO lA lT := by
  refine br_c (fun e => ?_) (fun e => ?_)
  · refine nm_r (e' := b) (Int32.or_zero) ?_
    exact ⟨(qx_b01 hb).1, (qx_b01 hb).2, h1 (qs_dj0.mp e)⟩
  · refine nm_r (e' := 1) ?_ ⟨(qx_b01 (Or.inr rfl)).1, (qx_b01 (Or.inr rfl)).2, h2 (fun z => e (qs_dj0.mpr z))⟩
    rcases hb with rfl | rfl <;> decide
theorem qx_putIn {T : Int32 → Prop} {post : SX → Prop} {a : Int32} (ok : qs_Ok i o b) (ha : qs_Sm a) (hM : ∀ M, T M → b = 0 → qs_Good M i o → qs_Sub a M)
    (h : ∀ i' b' v', qs_Stp T i o b mv i' o b' v' → (v' = 0 → qs_Sub a i) → post (pr, i', o, b', v', kn, ms, kd, hd, ps, ng, lI, lO, lA, lT)) : wpX_putIn post (pr, i, o, b, mv, kn, ms, kd, hd, ps, ng, lI, lO, lA, lT) a := by
  refine br_c (fun e => ?_) (fun e => ?_)
  · refine qx_in26 ok.2.2.1 (fun d => h i b mv (qs_stp_refl ok) (fun _ => qs_sub0.mp e)) (fun d => ?_)
    have e1 := qs_okbrk ok d
    have := h i b mv (qs_stp_refl ok) (fun _ => qs_sub0.mp e)
    rw [e1] at this
    exact this
  · have e' : ¬ qs_Sub a i := fun z => e (qs_sub0.mpr z)
    refine nm_e ?_
    exact qx_in26 ok.2.2.1 (fun d => h (i ||| a) b 1 (qs_inB ok ha hM e' d) (fun z => absurd z (by decide))) (fun d => h (i ||| a) 1 1 (qs_inN ok ha hM e' d) (fun z => absurd z (by decide)))
theorem qx_putOut {T : Int32 → Prop} {post : SX → Prop} {a : Int32} (ok : qs_Ok i o b) (ha : qs_Sm a) (hM : ∀ M, T M → b = 0 → qs_Good M i o → qs_Dj a M)
    (h : ∀ o' b' v', qs_Stp T i o b mv i o' b' v' → (v' = 0 → qs_Sub a o) → post (pr, i, o', b', v', kn, ms, kd, hd, ps, ng, lI, lO, lA, lT)) : wpX_putOut post (pr, i, o, b, mv, kn, ms, kd, hd, ps, ng, lI, lO, lA, lT) a := by
  refine br_c (fun e => ?_) (fun e => ?_)
  · refine qx_out26 ok.2.2.1 (fun d => h o b mv (qs_stp_refl ok) (fun _ => qs_sub0.mp e)) (fun d => ?_)
    have e1 := qs_okbrk ok d
    have := h o b mv (qs_stp_refl ok) (fun _ => qs_sub0.mp e)
    rw [e1] at this
    exact this
  · have e' : ¬ qs_Sub a o := fun z => e (qs_sub0.mpr z)
    refine nm_e ?_
    exact qx_out26 ok.2.2.1 (fun d => h (o ||| a) b 1 (qs_outB ok ha hM e' d) (fun z => absurd z (by decide))) (fun d => h (o ||| a) 1 1 (qs_outN ok ha hM e' d) (fun z => absurd z (by decide)))
end
end
section
/-! forward, backward, founded, supportOf -/
section
variable {pr i o b mv kn : Int32} {ms : Int64} {kd hd ps ng lI lO lA lT : Nat → Int32} {T : Int32 → Prop}
theorem qx_f29 {post : SX → Prop} {r : Nat} (hr : r < 10) (hb : b = 0 ∨ b = 1) (h2 : kd r = 2 → post (pr, i, o, 1, mv, kn, ms, kd, hd, ps, ng, lI, lO, lA, lT)) (h0 : kd r ≠ 2 → post (pr, i, o, b, mv, kn, ms, kd, hd, ps, ng, lI, lO, lA, lT)) : wX_forward_29 post (nI r) pr i o b mv kn ms kd hd ps ng lI lO lA lT := by
  have hv : vp_in (nI r) 10 := vp_in_nI hr (by decide)
  unfold wX_forward_29
  rw [nI_clamp (n := r) (by omega)]
  refine ⟨hv, br_c (fun e => ?_) (fun e => ?_)⟩
  · refine nm_r (e' := 1) ?_ ⟨(qx_b01 (Or.inr rfl)).1, (qx_b01 (Or.inr rfl)).2, h2 e⟩
    rcases hb with rfl | rfl <;> decide
  · refine nm_r (e' := b) (Int32.or_zero) ?_
    exact ⟨(qx_b01 hb).1, (qx_b01 hb).2, h0 e⟩
theorem qx_f94 {post : SX → Prop} {r : Nat} (V : qs_V kd hd ps ng) (TS : qs_TS pr kd hd ps ng T) (hr : r < 10) (hp : bt pr r = true) (ok : qs_Ok i o b) (hu : kd r = 2 ∨ kd r = 0 ∧ bt o (qs_hn hd r) = true)
    (h : ∀ i' o' b' v', qs_Stp T i o b mv i' o' b' v' → post (pr, i', o', b', v', kn, ms, kd, hd, ps, ng, lI, lO, lA, lT)) : wX_forward_94 post (nI r) 1 pr i o b mv kn ms kd hd ps ng lI lO lA lT := by
  have hv : vp_in (nI r) 10 := vp_in_nI hr (by decide)
  have s1 : qs_Sm (ps r &&& (i ^^^ (-1))) := qs_smand (V r hr).2.2.1
  have s2 : qs_Sm (ng r &&& (o ^^^ (-1))) := qs_smand (V r hr).2.2.2
  unfold wX_forward_94
  rw [nI_clamp (n := r) (by omega)]
  refine ⟨hv, nm_e ⟨hv, nm_e (br_f (by decide) ?_)⟩⟩
  refine qx_bodyFails hr (fun _ => br_t rfl ?_) (fun _ => br_f (by decide) (h i o b mv (qs_stp_refl ok)))
  refine qx_ones (qx_ones ?_)
  dsimp only
  rw [nI_add]
  have hle1 := qs_cnle6 (ps r &&& (i ^^^ (-1)))
  have hle2 := qs_cnle6 (ng r &&& (o ^^^ (-1)))
  refine pk_eq _ 1 (fun e => ?_) (fun _ => h i o b mv (qs_stp_refl ok))
  refine qx_putOut (T := T) ok s1 (fun M hT _ hg => qs_fwO V TS hT hr hp hg hu e) (fun o' b' v' S1 _ => ?_)
  refine qx_putIn (T := T) S1.1 s2 (fun M hT hb hg => ?_) (fun i' b2 v2 S2 _ => h _ _ _ _ (qs_stp_tr S1 S2))
  exact qs_fwI V TS hT hr hp ⟨hg.1, fun c hc => hg.2 c (S1.2.2.1 c hc)⟩ hu e
theorem qx_forward {post : SX → Prop} {r : Nat} (V : qs_V kd hd ps ng) (TS : qs_TS pr kd hd ps ng T) (hr : r < 10) (hp : bt pr r = true) (ok : qs_Ok i o b)
    (h : ∀ i' o' b' v', qs_Stp T i o b mv i' o' b' v' → (v' = 0 → b' = 0 → qs_Fw pr kd hd ps ng i o r) → post (pr, i', o', b', v', kn, ms, kd, hd, ps, ng, lI, lO, lA, lT)) : wpX_forward post (pr, i, o, b, mv, kn, ms, kd, hd, ps, ng, lI, lO, lA, lT) (nI r) := by
  have hv : vp_in (nI r) 10 := vp_in_nI hr (by decide)
  have hh := (V r hr).2.1
  unfold wpX_forward
  dsimp only
  rw [nI_clamp (n := r) (by omega)]
  refine qx_bodyHolds hr (fun e1 e2 => br_f (by decide) ⟨hv, br_c (fun k0 => ⟨hv, ?_⟩) (fun k0 => ?_)⟩) (fun hn => br_t rfl ⟨hv, ?_⟩)
  · rw [hh.2]
    refine qx_putIn (T := T) ok (qs_smone hh.1) (fun M hT hb hg => ?_) (fun i' b' v' S hs => ?_)
    · intro c hc
      rw [qs_one (by omega), decide_eq_true_iff] at hc
      rw [hc]
      exact (TS M hT).2.1 r hr hp k0 (qs_tr e1 hg.1) (fun d z1 z2 => hg.2 d (e2 d z1) z2)
    · dsimp only
      refine qx_f29 hr S.1.2.2.1 (fun k2 => ?_) (fun k2 => h i' o b' v' S (fun z _ => ?_))
      · rw [k0] at k2; exact absurd k2 (by decide)
      · intro _ _ _
        exact ⟨k2, fun _ => hs z _ (by rw [qs_one (by omega), decide_eq_true_iff])⟩
  · refine qx_f29 hr ok.2.2.1 (fun k2 => h i o 1 mv (qs_stp_brk ok ?_) (fun _ z => absurd z (by decide))) (fun k2 => h i o b mv (qs_stp_refl ok) (fun _ _ => fun _ _ _ => ⟨k2, fun z => absurd z k0⟩))
    intro M hT hb hg
    exact (TS M hT).2.2.1 r hr hp k2 (qs_tr e1 hg.1) (fun d z1 z2 => hg.2 d (e2 d z1) z2)
  · have hF : ∀ v' b' : Int32, v' = 0 → b' = 0 → qs_Fw pr kd hd ps ng i o r := fun _ _ _ _ _ z1 z2 => absurd ⟨z1, z2⟩ hn
    have h93 : wX_forward_93 post (nI r) pr i o b mv kn ms kd hd ps ng lI lO lA lT := And.intro hv (nm_e (And.intro hv (nm_e (br_t rfl (h i o b mv (qs_stp_refl ok) (hF _ _))))))
    refine br_c (fun k2 => ?_) (fun k2 => ⟨hv, br_c (fun k0 => ⟨hv, ?_⟩) (fun k0 => h93)⟩)
    · exact qx_f94 V TS hr hp ok (Or.inl k2) (fun i' o' b' v' S => h i' o' b' v' S (hF _ _))
    · rw [hh.2]
      refine br_c (fun _ => h93) (fun e => ?_)
      exact qx_f94 V TS hr hp ok (Or.inr ⟨k0, qs_ft (fun z => e ((qs_bit0 (by omega)).mpr z))⟩) (fun i' o' b' v' S => h i' o' b' v' S (hF _ _))
/-- what backward's loop knows at rule r: how many rules may bring in atom a, and the last of them -/
def qx_bk (E : Nat → Prop) (x2 x3 : Int32) (r : Nat) : Prop := ∃ c, x3 = nI c ∧ c ≤ r ∧ (c = 0 → ∀ q, q < r → ¬ E q) ∧ (c = 1 → ∃ q, q < r ∧ x2 = nI q ∧ ∀ q', q' < r → E q' → q' = q)
theorem qx_bkn {E : Nat → Prop} {x2 x3 : Int32} {r : Nat} (h : qx_bk E x2 x3 r) (hn : ¬ E r) : qx_bk E x2 x3 (r + 1) := by
  obtain ⟨c, e, hc, h0, h1⟩ := h
  refine ⟨c, e, by omega, fun z => ?_, fun z => ?_⟩
  · intro q hq
    rcases Nat.lt_or_ge q r with g | g
    · exact h0 z q g
    · rw [show q = r by omega]; exact hn
  · obtain ⟨q, hq, e2, hu⟩ := h1 z
    refine ⟨q, by omega, e2, fun q' hq' E' => ?_⟩
    rcases Nat.lt_or_ge q' r with g | g
    · exact hu q' g E'
    · rw [show q' = r by omega] at E'; exact absurd E' hn
theorem qx_bky {E : Nat → Prop} {x2 x3 : Int32} {r : Nat} (h : qx_bk E x2 x3 r) : qx_bk E (nI r) (x3 + 1) (r + 1) := by
  obtain ⟨c, e, hc, h0, h1⟩ := h
  refine ⟨c + 1, by rw [e, nI_1], by omega, fun z => by omega, fun z => ⟨r, by omega, rfl, fun q' hq' E' => ?_⟩⟩
  rcases Nat.lt_or_ge q' r with g | g
  · exact absurd E' (h0 (by omega) q' g)
  · omega
theorem qx_b19 {post : SX → Prop} {a : Nat} (V : qs_V kd hd ps ng) (TS : qs_TS pr kd hd ps ng T) (ha : a < 6) (hin : bt i a = true) (ok : qs_Ok i o b)
    (h : ∀ i' o' b' v', qs_Stp T i o b mv i' o' b' v' → post (pr, i', o', b', v', kn, ms, kd, hd, ps, ng, lI, lO, lA, lT)) :
    ∀ d r, r + d = 10 → ∀ x2 x3, qx_bk (qs_El pr kd hd ps ng i o a) x2 x3 r → wX_backward_19 post (nI a) pr i o b mv kn ms kd hd ps ng lI lO lA lT (d + 1) x2 x3 (nI r) := by
  intro d
  induction d with
  | zero =>
    intro r hr x2 x3 hk
    have e : r = 10 := by omega
    subst e
    obtain ⟨c, e3, hc, h0, h1⟩ := hk
    subst e3
    refine br_t (nI_le (a := 10) (by omega) (by decide)) ?_
    refine pk_eq c 0 (fun c0 => ?_) (fun c0 => pk_eq c 1 (fun c1 => ?_) (fun _ => h i o b mv (qs_stp_refl ok)))
    · refine h i o 1 mv (qs_stp_brk ok ?_)
      intro M hT hb hg
      obtain ⟨r, hr, hE, _⟩ := qs_el TS hT hg hin
      exact h0 c0 r hr hE
    · obtain ⟨q, hq, e2, hu⟩ := h1 c1
      subst e2
      have hv : vp_in (nI q) 10 := vp_in_nI hq (by decide)
      have hl : ∀ M, T M → qs_Good M i o → qs_Sub (ps q) M ∧ qs_Dj (ng q) M := by
        intro M hT hg
        obtain ⟨r, hr, hE, g1, g2⟩ := qs_el TS hT hg hin
        rw [hu r hr hE] at g1 g2
        exact ⟨g1, g2⟩
      refine ⟨hv, ?_⟩
      rw [nI_clamp (n := q) (by omega)]
      refine qx_putIn (T := T) ok (V q hq).2.2.1 (fun M hT _ hg => (hl M hT hg).1) (fun i' b' v' S1 _ => ⟨hv, ?_⟩)
      refine qx_putOut (T := T) S1.1 (V q hq).2.2.2 (fun M hT _ hg => (hl M hT ⟨qs_tr S1.2.1 hg.1, hg.2⟩).2) (fun o' b2 v2 S2 _ => h _ _ _ _ (qs_stp_tr S1 S2))
  | succ d ih =>
    intro r hr x2 x3 hk
    have hr' : r < 10 := by omega
    have hv : vp_in (nI r) 10 := vp_in_nI hr' (by decide)
    have hh := (V r hr').2.1
    have hno : ¬ qs_El pr kd hd ps ng i o a r → ∀ y, y = nI r + 1 → wX_backward_19 post (nI a) pr i o b mv kn ms kd hd ps ng lI lO lA lT (d + 1) x2 x3 y := fun hn => nm_r (nI_1 r) (ih (r + 1) (by omega) x2 x3 (qx_bkn hk hn))
    refine br_f (nI_ge (b := 10) hr' (by decide)) ?_
    rw [nI_clamp (n := r) (by omega)]
    refine qx_has hr' (fun p1 => br_f (by decide) ⟨hv, br_c (fun k2 => hno (fun z => z.2.1 k2)) (fun k2 => ⟨hv, br_c (fun ea => ?_) (fun ea => hno (fun z => ?_))⟩)⟩) (fun p0 => br_t rfl (hno (fun z => ?_)))
    · refine qx_bodyFails hr' (fun f => br_t rfl ?_) (fun f => br_f (by decide) (hno (fun z => f z.2.2.2)))
      exact nm_e (nm_r (nI_1 r) (ih (r + 1) (by omega) _ _ (qx_bky hk)))
    · exact ea (by rw [hh.2, z.2.2.1])
    · rw [z.1] at p0; cases p0
theorem qx_backward {post : SX → Prop} {a : Nat} (V : qs_V kd hd ps ng) (TS : qs_TS pr kd hd ps ng T) (ha : a < 6) (ok : qs_Ok i o b)
    (h : ∀ i' o' b' v', qs_Stp T i o b mv i' o' b' v' → post (pr, i', o', b', v', kn, ms, kd, hd, ps, ng, lI, lO, lA, lT)) : wpX_backward post (pr, i, o, b, mv, kn, ms, kd, hd, ps, ng, lI, lO, lA, lT) (nI a) := by
  refine br_c (fun e => h i o b mv (qs_stp_refl ok)) (fun e => ⟨11, ?_⟩)
  have hin : bt i a = true := qs_ft (fun z => e ((qs_bit0 (by omega)).mpr z))
  exact qx_b19 V TS ha hin ok h 10 0 rfl _ _ ⟨0, rfl, Nat.le_refl 0, fun _ q hq => absurd hq (Nat.not_lt_zero q), fun z => absurd z (by decide)⟩
theorem qx_fo12 {post : Int32 → Prop} {J4 : Int32 → Int32 → Prop} {k : Nat} {s : Int32} (V : qs_V kd hd ps ng)
    (hJ : J4 (qs_pa (qs_enF pr kd hd ps ng i o) hd ps s 10) (nI (k + 1))) :
    ∀ d r, r + d = 10 → wX_founded_12 post J4 (nI k) pr i o b mv kn ms kd hd ps ng lI lO lA lT (d + 1) (qs_pa (qs_enF pr kd hd ps ng i o) hd ps s r) (nI r) := by
  intro d
  induction d with
  | zero =>
    intro r hr
    have e : r = 10 := by omega
    subst e
    exact br_t (nI_le (a := 10) (by omega) (by decide)) (nm_r (nI_1 k) hJ)
  | succ d ih =>
    intro r hr
    have hr' : r < 10 := by omega
    have hv : vp_in (nI r) 10 := vp_in_nI hr' (by decide)
    have hh := (V r hr').2.1
    have IH := ih (r + 1) (by omega)
    have es : qs_pa (qs_enF pr kd hd ps ng i o) hd ps s (r + 1) = qs_st (qs_enF pr kd hd ps ng i o) hd ps (qs_pa (qs_enF pr kd hd ps ng i o) hd ps s r) r := rfl
    rw [es] at IH
    generalize qs_pa (qs_enF pr kd hd ps ng i o) hd ps s r = t at IH ⊢
    have hno : ¬ (qs_enF pr kd hd ps ng i o r) → wX_founded_64 post J4 (wX_founded_12 post J4 (nI k) pr i o b mv kn ms kd hd ps ng lI lO lA lT (d + 1)) t (nI k) (nI r) pr i o b mv kn ms kd hd ps ng lI lO lA lT := fun hn => by
      rw [qs_st_f (fun z => hn z.1)] at IH
      exact br_t rfl (nm_r (nI_1 r) IH)
    refine br_f (nI_ge (b := 10) hr' (by decide)) ?_
    rw [nI_clamp (n := r) (by omega)]
    refine qx_has hr' (fun p1 => br_f (by decide) ⟨hv, br_c (fun k2 => hno (fun z => z.2.1 k2)) (fun k2 => ?_)⟩) (fun p0 => br_t rfl (hno (fun z => ?_)))
    · refine qx_bodyFails hr' (fun f => br_t rfl ⟨hv, ?_⟩) (fun f => br_f (by decide) (hno (fun z => f z.2.2.1)))
      rw [hh.2]
      refine br_c (fun e => ?_) (fun e => hno (fun z => e ((qs_bit0 (by omega)).mpr z.2.2.2)))
      have hen : qs_enF pr kd hd ps ng i o r := ⟨p1, k2, f, (qs_bit0 (by omega)).mp e⟩
      refine br_f (by decide) ⟨hv, ?_⟩
      rw [nI_clamp (n := r) (by omega)]
      refine br_c (fun e1 => ⟨hv, ?_⟩) (fun e1 => ?_)
      · rw [qs_st_t hen (qs_sub0.mp e1)] at IH
        exact nm_e (nm_r (nI_1 r) IH)
      · rw [qs_st_f (fun z => e1 (qs_sub0.mpr z.2))] at IH
        exact nm_r (nI_1 r) IH
    · rw [z.1] at p0; cases p0
theorem qx_fo4 {post : Int32 → Prop} (V : qs_V kd hd ps ng) (h : post (qs_fou pr kd hd ps ng i o)) :
    ∀ d k, k + d = 6 → wX_founded_4 post pr i o b mv kn ms kd hd ps ng lI lO lA lT (d + 1) (qs_it (qs_enF pr kd hd ps ng i o) hd ps k) (nI k) := by
  intro d
  induction d with
  | zero =>
    intro k hk
    have e : k = 6 := by omega
    subst e
    exact br_t (nI_le (a := 6) (by omega) (by decide)) h
  | succ d ih =>
    intro k hk
    refine br_f (nI_ge (b := 6) (by omega) (by decide)) ⟨11, ?_⟩
    exact qx_fo12 (s := qs_it (qs_enF pr kd hd ps ng i o) hd ps k) V (ih (k + 1) (by omega)) 10 0 rfl
theorem qx_founded {post : Int32 → Prop} (V : qs_V kd hd ps ng) (h : post (qs_fou pr kd hd ps ng i o)) : wpX_founded post (pr, i, o, b, mv, kn, ms, kd, hd, ps, ng, lI, lO, lA, lT) := Exists.intro 7 (qx_fo4 V h 6 0 rfl)
theorem qx_su13 {post : Int32 → Prop} {J4 : Int32 → Int32 → Prop} {k : Nat} {s m : Int32} (V : qs_V kd hd ps ng)
    (hJ : J4 (qs_pa (qs_enS pr kd hd ng m) hd ps s 10) (nI (k + 1))) :
    ∀ d r, r + d = 10 → wX_supportOf_13 post J4 m (nI k) pr i o b mv kn ms kd hd ps ng lI lO lA lT (d + 1) (qs_pa (qs_enS pr kd hd ng m) hd ps s r) (nI r) := by
  intro d
  induction d with
  | zero =>
    intro r hr
    have e : r = 10 := by omega
    subst e
    exact br_t (nI_le (a := 10) (by omega) (by decide)) (nm_r (nI_1 k) hJ)
  | succ d ih =>
    intro r hr
    have hr' : r < 10 := by omega
    have hv : vp_in (nI r) 10 := vp_in_nI hr' (by decide)
    have hh := (V r hr').2.1
    have IH := ih (r + 1) (by omega)
    have es : qs_pa (qs_enS pr kd hd ng m) hd ps s (r + 1) = qs_st (qs_enS pr kd hd ng m) hd ps (qs_pa (qs_enS pr kd hd ng m) hd ps s r) r := rfl
    rw [es] at IH
    generalize qs_pa (qs_enS pr kd hd ng m) hd ps s r = t at IH ⊢
    have hno : ¬ (qs_enS pr kd hd ng m r ∧ qs_Sub (ps r) t) → wX_supportOf_70 post J4 (wX_supportOf_13 post J4 m (nI k) pr i o b mv kn ms kd hd ps ng lI lO lA lT (d + 1)) m t (nI k) (nI r) pr i o b mv kn ms kd hd ps ng lI lO lA lT := fun hn => by
      rw [qs_st_f hn] at IH
      exact br_t rfl (nm_r (nI_1 r) IH)
    refine br_f (nI_ge (b := 10) hr' (by decide)) ?_
    rw [nI_clamp (n := r) (by omega)]
    refine qx_has hr' (fun p1 => br_f (by decide) ⟨hv, br_c (fun k2 => hno (fun z => z.1.2.1 k2)) (fun k2 => ⟨hv, br_c (fun en => ⟨hv, br_c (fun ep => ?_) (fun ep => hno (fun z => ep (qs_sub0.mpr z.2)))⟩) (fun en => hno (fun z => en (qs_dj0.mpr z.1.2.2.1)))⟩)⟩) (fun p0 => br_t rfl (hno (fun z => ?_)))
    · have hyes : (kd r = 0 ∨ bt m (qs_hn hd r) = true) → wX_supportOf_102 post J4 (wX_supportOf_13 post J4 m (nI k) pr i o b mv kn ms kd hd ps ng lI lO lA lT (d + 1)) m t (nI k) (nI r) pr i o b mv kn ms kd hd ps ng lI lO lA lT := fun hy => by
        rw [qs_st_t ⟨p1, k2, qs_dj0.mp en, hy⟩ (qs_sub0.mp ep)] at IH
        unfold wX_supportOf_102
        rw [nI_clamp (n := r) (by omega)]
        exact ⟨hv, nm_e (nm_r (nI_1 r) IH)⟩
      unfold wX_supportOf_71
      rw [nI_clamp (n := r) (by omega)]
      refine br_f (by decide) ⟨hv, br_c (fun k0 => hyes (Or.inl k0)) (fun k0 => ⟨hv, ?_⟩)⟩
      rw [hh.2]
      refine br_c (fun e => ?_) (fun e => hyes (Or.inr (qs_ft (fun z => e ((qs_bit0 (by omega)).mpr z)))))
      rw [qs_st_f (fun z => ?_)] at IH
      · exact nm_r (nI_1 r) IH
      · rcases z.1.2.2.2 with g | g
        · exact k0 g
        · rw [(qs_bit0 (by omega)).mp e] at g; cases g
    · rw [z.1.1] at p0; cases p0
theorem qx_su4 {post : Int32 → Prop} {m : Int32} (V : qs_V kd hd ps ng) (h : post (qs_sup pr kd hd ps ng m)) :
    ∀ d k, k + d = 6 → wX_supportOf_4 post m pr i o b mv kn ms kd hd ps ng lI lO lA lT (d + 1) (qs_it (qs_enS pr kd hd ng m) hd ps k) (nI k) := by
  intro d
  induction d with
  | zero =>
    intro k hk
    have e : k = 6 := by omega
    subst e
    exact br_t (nI_le (a := 6) (by omega) (by decide)) h
  | succ d ih =>
    intro k hk
    refine br_f (nI_ge (b := 6) (by omega) (by decide)) ⟨11, ?_⟩
    exact qx_su13 (s := qs_it (qs_enS pr kd hd ng m) hd ps k) V (ih (k + 1) (by omega)) 10 0 rfl
theorem qx_supportOf {post : Int32 → Prop} {m : Int32} (V : qs_V kd hd ps ng) (h : post (qs_sup pr kd hd ps ng m)) : wpX_supportOf post (pr, i, o, b, mv, kn, ms, kd, hd, ps, ng, lI, lO, lA, lT) m := Exists.intro 7 (qx_su4 V h 6 0 rfl)
end
end
section
/-! conclude -/
/-- what conclude gives, from in and out i0, o0 that aren't broken -/
def qs_Con (pr : Int32) (kd hd ps ng : Nat → Int32) (T : Int32 → Prop) (i0 o0 i o b : Int32) : Prop :=
  qs_Ok i o b ∧ qs_Sub i0 i ∧ qs_Sub o0 o ∧ (∀ M, T M → qs_Good M i0 o0 → b = 0 ∧ qs_Good M i o) ∧ (b = 0 → qs_Fix pr kd hd ps ng i o)
section
variable {pr i o b mv kn : Int32} {ms : Int64} {kd hd ps ng lI lO lA lT : Nat → Int32} {T : Int32 → Prop} {i0 o0 : Int32}
/-- in a round: the state at its head was i0, o0, and where nothing moved the rules below r are followed -/
def qx_rd (pr : Int32) (kd hd ps ng : Nat → Int32) (T : Int32 → Prop) (i0 o0 : Int32) (r : Nat) (i o b v : Int32) : Prop :=
  qs_Stp T i0 o0 0 0 i o b v ∧ (v = 0 → b = 0 → ∀ q, q < r → qs_Fw pr kd hd ps ng i0 o0 q)
def qx_rf (pr : Int32) (kd hd ps ng : Nat → Int32) (T : Int32 → Prop) (i0 o0 i o b v : Int32) : Prop :=
  qs_Stp T i0 o0 0 0 i o b v ∧ (v = 0 → b = 0 → qs_Fix pr kd hd ps ng i0 o0)
theorem qx_c61 {post : SX → Prop} {J7 : Int32 → Int32 → Int32 → Int32 → Int32 → Int32 → Int32 → Int64 → (Nat → Int32) → (Nat → Int32) → (Nat → Int32) → (Nat → Int32) → (Nat → Int32) → (Nat → Int32) → (Nat → Int32) → (Nat → Int32) → Prop} {k : Nat} (V : qs_V kd hd ps ng) (TS : qs_TS pr kd hd ps ng T)
    (hJ : ∀ i o b mv, qx_rf pr kd hd ps ng T i0 o0 i o b mv → J7 (nI (k + 1)) pr i o b mv kn ms kd hd ps ng lI lO lA lT) :
    ∀ d a, a + d = 6 → ∀ i o b mv, qx_rd pr kd hd ps ng T i0 o0 10 i o b mv → wX_conclude_61 post J7 (nI k) (d + 1) (nI a) pr i o b mv kn ms kd hd ps ng lI lO lA lT := by
  intro d
  induction d with
  | zero =>
    intro a ha i o b mv hS
    have e : a = 6 := by omega
    subst e
    refine br_t (nI_le (a := 6) (by omega) (by decide)) ?_
    refine qx_founded V (nm_e ?_)
    refine qx_putOut (T := T) hS.1.1 (qs_smand qs_sm63) (fun M hT _ hg => ?_) (fun o' b' v' S hs => nm_r (nI_1 k) (hJ i o' b' v' ⟨qs_stp_tr hS.1 S, fun z zb => ?_⟩))
    · intro c hc hM
      have h1 := (TS M hT).2.2.2.2 i o hg c hM
      rw [(qs_diff.mp hc).2] at h1
      cases h1
    · obtain ⟨z1, _, e2⟩ := S.2.2.2.2.1 z
      have zb1 := S.2.2.2.1 zb
      obtain ⟨_, e3, e4⟩ := hS.1.2.2.2.2.1 z1
      refine ⟨hS.2 z1 zb1, ?_⟩
      intro c hc hf
      rw [← e4]
      rw [← e3, ← e4] at hf
      exact hs z c (qs_diff.mpr ⟨(qs_63 c).mpr hc, hf⟩)
  | succ d ih =>
    intro a ha i o b mv hS
    refine br_f (nI_ge (b := 6) (by omega) (by decide)) ?_
    refine qx_backward (T := T) V TS (by omega) hS.1.1 (fun i' o' b' v' S => nm_r (nI_1 a) (ih (a + 1) (by omega) i' o' b' v' ⟨qs_stp_tr hS.1 S, fun z zb => ?_⟩))
    exact hS.2 (S.2.2.2.2.1 z).1 (S.2.2.2.1 zb)
theorem qx_c34 {post : SX → Prop} {J7 : Int32 → Int32 → Int32 → Int32 → Int32 → Int32 → Int32 → Int64 → (Nat → Int32) → (Nat → Int32) → (Nat → Int32) → (Nat → Int32) → (Nat → Int32) → (Nat → Int32) → (Nat → Int32) → (Nat → Int32) → Prop} {k : Nat} (V : qs_V kd hd ps ng) (TS : qs_TS pr kd hd ps ng T)
    (hJ : ∀ i o b mv, qx_rf pr kd hd ps ng T i0 o0 i o b mv → J7 (nI (k + 1)) pr i o b mv kn ms kd hd ps ng lI lO lA lT) :
    ∀ d r, r + d = 10 → ∀ i o b mv, qx_rd pr kd hd ps ng T i0 o0 r i o b mv → wX_conclude_34 post J7 (nI k) (d + 1) (nI r) pr i o b mv kn ms kd hd ps ng lI lO lA lT := by
  intro d
  induction d with
  | zero =>
    intro r hr i o b mv hS
    have e : r = 10 := by omega
    subst e
    exact br_t (nI_le (a := 10) (by omega) (by decide)) ⟨7, qx_c61 V TS hJ 6 0 rfl i o b mv hS⟩
  | succ d ih =>
    intro r hr i o b mv hS
    have hr' : r < 10 := by omega
    refine br_f (nI_ge (b := 10) hr' (by decide)) ?_
    refine qx_has hr' (fun p1 => br_f (by decide) ?_) (fun p0 => br_t rfl (nm_r (nI_1 r) (ih (r + 1) (by omega) i o b mv ⟨hS.1, fun z zb => ?_⟩)))
    · refine qx_forward (T := T) V TS hr' p1 hS.1.1 (fun i' o' b' v' S hF => nm_r (nI_1 r) (ih (r + 1) (by omega) i' o' b' v' ⟨qs_stp_tr hS.1 S, fun z zb => ?_⟩))
      have z1 := (S.2.2.2.2.1 z).1
      have zb1 := S.2.2.2.1 zb
      obtain ⟨_, e3, e4⟩ := hS.1.2.2.2.2.1 z1
      intro q hq
      rcases Nat.lt_or_ge q r with g | g
      · exact hS.2 z1 zb1 q g
      · have e : q = r := by omega
        rw [e, ← e3, ← e4]
        exact hF z zb
    · intro q hq
      rcases Nat.lt_or_ge q r with g | g
      · exact hS.2 z zb q g
      · have e : q = r := by omega
        rw [e]
        intro p1
        rw [p1] at p0; cases p0
theorem qx_c7 {post : SX → Prop} (V : qs_V kd hd ps ng) (TS : qs_TS pr kd hd ps ng T)
    (h : ∀ i o b mv, qs_Con pr kd hd ps ng T i0 o0 i o b → post (pr, i, o, b, mv, kn, ms, kd, hd, ps, ng, lI, lO, lA, lT)) :
    ∀ d k, k + d = 14 → ∀ i o b mv, qs_Ok i o b → qs_Sub i0 i → qs_Sub o0 o → (∀ M, T M → qs_Good M i0 o0 → b = 0 ∧ qs_Good M i o) → (mv = 0 → b = 0 → qs_Fix pr kd hd ps ng i o) → (mv ≠ 0 → b = 0 → k ≤ qs_cn i + qs_cn o) → wX_conclude_7 post (d + 1) (nI k) pr i o b mv kn ms kd hd ps ng lI lO lA lT := by
  intro d
  induction d with
  | zero =>
    intro k hk i o b mv ok s1 s2 hM hF hc
    have e : k = 14 := by omega
    subst e
    refine br_t (nI_le (a := 14) (by omega) (by decide)) (h i o b mv ⟨ok, s1, s2, hM, fun z => ?_⟩)
    by_cases e : mv = 0
    · exact hF e z
    · have := hc e z
      have := qs_cndj (ok.2.2.2 z)
      omega
  | succ d ih =>
    intro k hk i o b mv ok s1 s2 hM hF hc
    refine br_f (nI_ge (b := 14) (by omega) (by decide)) (br_c (fun e => h i o b mv ⟨ok, s1, s2, hM, hF e⟩) (fun e => br_c (fun e0 => ⟨11, ?_⟩) (fun e0 => h i o b mv ⟨ok, s1, s2, hM, fun z => absurd z e0⟩)))
    subst e0
    refine qx_c34 (T := T) (i0 := i) (o0 := o) V TS ?_ 10 0 rfl i o 0 0 ⟨qs_stp_refl ok, fun _ _ q hq => absurd hq (Nat.not_lt_zero q)⟩
    intro i' o' b' v' hR
    obtain ⟨S, hX⟩ := hR
    refine ih (k + 1) (by omega) i' o' b' v' S.1 (qs_tr s1 S.2.1) (qs_tr s2 S.2.2.1) ?_ ?_ ?_
    · intro M hT hg
      obtain ⟨z, g⟩ := hM M hT hg
      exact S.2.2.2.2.2.2 M hT z g
    · intro z zb
      obtain ⟨_, e1, e2⟩ := S.2.2.2.2.1 z
      rw [e1, e2]
      exact hX z zb
    · intro z zb
      rcases S.2.2.2.2.2.1 z with q | q
      · exact absurd rfl q
      · have := hc e rfl
        omega
theorem qx_conclude {post : SX → Prop} (V : qs_V kd hd ps ng) (TS : qs_TS pr kd hd ps ng T) (hi : qs_Sm i) (ho : qs_Sm o) (hd0 : qs_Dj i o)
    (h : ∀ i' o' b' v', qs_Con pr kd hd ps ng T i o i' o' b' → post (pr, i', o', b', v', kn, ms, kd, hd, ps, ng, lI, lO, lA, lT)) : wpX_conclude post (pr, i, o, 0, mv, kn, ms, kd, hd, ps, ng, lI, lO, lA, lT) :=
  Exists.intro 15 (qx_c7 (T := T) (i0 := i) (o0 := o) V TS h 14 0 rfl i o 0 1 ⟨hi, ho, Or.inl rfl, fun _ => hd0⟩ qs_refl qs_refl (fun _ _ g => ⟨rfl, g⟩) (fun z => absurd z (by decide)) (fun _ _ => Nat.zero_le _))
end
end
section
/-! search -/
def qs_mb (ms : Int64) (m : Nat) : Bool := ms.toBitVec.getLsbD m
theorem qs_mb0 (m : Nat) : qs_mb 0 m = false := BitVec.getLsbD_zero
theorem qs_l1 : ∀ k, k < 64 → ((1 : Int64) <<< ((nI k).toInt64 &&& 63)).toBitVec = BitVec.twoPow 64 k := by decide +kernel
theorem qs_mbor {ms : Int64} {k m : Nat} (hk : k < 64) : qs_mb (ms ||| ((1 : Int64) <<< ((nI k).toInt64 &&& 63))) m = true ↔ qs_mb ms m = true ∨ m = k := by
  unfold qs_mb
  rw [Int64.toBitVec_or, BitVec.getLsbD_or, qs_l1 k hk, BitVec.getLsbD_twoPow]
  simp only [Bool.or_eq_true, Bool.and_eq_true, decide_eq_true_eq]
  exact ⟨fun h => h.elim Or.inl (fun g => Or.inr (by omega)), fun h => h.elim Or.inl (fun g => Or.inr (by omega))⟩
theorem qs_mbbit {ms : Int64} {m : Nat} (hm : m < 64) : ((ms.toUInt64 >>> ((nI m).toInt64.toUInt64 &&& Int64.toUInt64 63)).toInt64 &&& 1) = 0 ↔ qs_mb ms m = false := by
  apply ts_bit hm
  rw [wb_cu m hm]
  exact Nat.mod_eq_of_lt (by omega)
theorem qs_nar0 : vp_nar .byte 0 = 0 := by rw [vp_nar_byte]; decide
theorem qs_nart0 : vp_nar .byte (((0 : Int32) + 1).toInt8.toInt32) = 1 := by rw [vp_nar_byte]; decide
theorem qs_nart1 : vp_nar .byte (((1 : Int32) + 1).toInt8.toInt32) = 2 := by rw [vp_nar_byte]; decide
/-- a level: what was known, the atom that is tried, how often it was -/
def qs_Lv (lI lO lA lT : Nat → Int32) (l : Nat) : Prop := qs_Sm (lI l) ∧ qs_Sm (lO l) ∧ qs_Dj (lI l) (lO l) ∧ (∃ a, a < 6 ∧ lA l = nI a ∧ bt (lI l) a = false ∧ bt (lO l) a = false)
  ∧ l ≤ qs_cn (lI l) + qs_cn (lO l) ∧ (lT l = 0 ∨ lT l = 1 ∨ lT l = 2)
/-- a set that a level has still to find -/
def qs_pd (lI lO lA lT : Nat → Int32) (l : Nat) (M : Int32) : Prop := (lT l = 0 ∧ qs_Good M (lI l) (lO l)) ∨ (lT l = 1 ∧ qs_Good M (lI l ||| ((1 : Int32) <<< (lA l &&& 31))) (lO l))
/-- trials that a level may still ask for -/
def qs_w (l : Nat) (t : Int32) : Nat := if t = 0 then 2 ^ (7 - l) - 2 else if t = 1 then 2 ^ (6 - l) - 1 else 0
def qs_ph (lT : Nat → Int32) : Nat → Nat
  | 0 => 0
  | l + 1 => qs_ph lT l + qs_w l (lT l)
theorem qs_ph_eq {lT lT' : Nat → Int32} : ∀ L, (∀ l, l < L → lT' l = lT l) → qs_ph lT' L = qs_ph lT L := by
  intro L
  induction L with
  | zero => intro _; rfl
  | succ L ih =>
    intro h
    show qs_ph lT' L + qs_w L (lT' L) = qs_ph lT L + qs_w L (lT L)
    rw [ih (fun l hl => h l (by omega)), h L (by omega)]
theorem qs_p2 : ∀ l, l < 6 → 2 ^ (7 - l) = 2 * 2 ^ (6 - l) ∧ 2 ≤ 2 ^ (6 - l) ∧ 2 ^ (7 - (l + 1)) = 2 ^ (6 - l) := by decide
theorem qs_w0 (l : Nat) : qs_w l 0 = 2 ^ (7 - l) - 2 := rfl
theorem qs_w1 (l : Nat) : qs_w l 1 = 2 ^ (6 - l) - 1 := rfl
theorem qs_w2 (l : Nat) : qs_w l 2 = 0 := rfl
theorem qs_LvL {lI lO lA lT : Nat → Int32} {l : Nat} (h : qs_Lv lI lO lA lT l) : l < 6 := by
  obtain ⟨_, _, hj, ⟨a, ha, _, h1, h2⟩, hc, _⟩ := h
  have := qs_cndj5 hj ha h1 h2
  omega
def qx_I2 (T : Int32 → Prop) (ms : Int64) (lI lO lA lT : Nat → Int32) (L : Nat) : Prop :=
  (∀ l, l < L → qs_Lv lI lO lA lT l) ∧ (∀ m, m < 64 → T (nI m) → qs_mb ms m = true ∨ ∃ l, l < L ∧ qs_pd lI lO lA lT l (nI m)) ∧ (∀ m, m < 64 → qs_mb ms m = true → T (nI m))
def qx_IJ (pr : Int32) (kd hd ps ng : Nat → Int32) (T : Int32 → Prop) (i o b : Int32) (ms : Int64) (lI lO lA lT : Nat → Int32) (L k : Nat) : Prop :=
  (∀ l, l < L → qs_Lv lI lO lA lT l) ∧ qs_Ok i o b ∧ (b = 0 → qs_Fix pr kd hd ps ng i o ∧ L ≤ qs_cn i + qs_cn o) ∧ L ≤ 6 ∧ k + qs_ph lT L + (2 ^ (7 - L) - 2) ≤ 126
  ∧ (∀ m, m < 64 → T (nI m) → qs_mb ms m = true ∨ (b = 0 ∧ qs_Good (nI m) i o) ∨ ∃ l, l < L ∧ qs_pd lI lO lA lT l (nI m)) ∧ (∀ m, m < 64 → qs_mb ms m = true → T (nI m))
section
variable {pr i o b mv kn : Int32} {ms : Int64} {kd hd ps ng lI lO lA lT : Nat → Int32} {T : Int32 → Prop}
/-- a trial at the top level -/
theorem qs_try {L k : Nat} {i1 o1 i' o' b' t' : Int32} (I : qx_I2 T ms lI lO lA lT (L + 1)) (hk : k + qs_ph lT (L + 1) ≤ 126) (C : qs_Con pr kd hd ps ng T i1 o1 i' o' b')
    (ht : t' = 1 ∨ t' = 2) (hw : 1 + qs_w L t' + (2 ^ (6 - L) - 2) ≤ qs_w L (lT L)) (hc : L + 1 ≤ qs_cn i1 + qs_cn o1)
    (hp : ∀ M, qs_pd lI lO lA lT L M → qs_Good M i1 o1 ∨ qs_pd lI lO lA (upd lT L t') L M) :
    qx_IJ pr kd hd ps ng T i' o' b' ms lI lO lA (upd lT L t') (L + 1) (k + 1) := by
  obtain ⟨hL, hM, hS⟩ := I
  obtain ⟨ok, c1, c2, c3, c4⟩ := C
  have hL6 := qs_LvL (hL L (by omega))
  have hlow : ∀ l, l < L → upd lT L t' l = lT l := fun l hl => pk_un (by omega)
  have htop : upd lT L t' L = t' := pk_us
  refine ⟨?_, ok, ?_, by omega, ?_, ?_, hS⟩
  · intro l hl
    obtain ⟨h1, h2, h3, h4, h5, h6⟩ := hL l hl
    refine ⟨h1, h2, h3, h4, h5, ?_⟩
    rcases Nat.lt_or_ge l L with g | g
    · rw [hlow l g]; exact h6
    · rw [show l = L by omega, htop]
      exact Or.inr ht
  · intro z
    refine ⟨c4 z, ?_⟩
    have := qs_cnle c1; have := qs_cnle c2
    omega
  · have e1 : qs_ph (upd lT L t') (L + 1) = qs_ph lT L + qs_w L t' := by
      show qs_ph (upd lT L t') L + qs_w L (upd lT L t' L) = _
      rw [htop, qs_ph_eq L hlow]
    have e2 : qs_ph lT (L + 1) = qs_ph lT L + qs_w L (lT L) := rfl
    have p := qs_p2 L hL6
    rw [e1, p.2.2]
    rw [e2] at hk
    omega
  · intro m hm hT
    rcases hM m hm hT with h | ⟨l, hl, h⟩
    · exact Or.inl h
    · rcases Nat.lt_or_ge l L with g | g
      · refine Or.inr (Or.inr ⟨l, hl, ?_⟩)
        unfold qs_pd
        rw [hlow l g]
        exact h
      · have e : l = L := by omega
        rw [e] at h
        rcases hp _ h with q | q
        · exact Or.inr (Or.inl (c3 _ hT q))
        · exact Or.inr (Or.inr ⟨L, by omega, q⟩)
theorem qs_goodsplit {M i o : Int32} {a : Nat} (ha : a < 6) (h : qs_Good M i o) : qs_Good M i (o ||| ((1 : Int32) <<< (nI a &&& 31))) ∨ qs_Good M (i ||| ((1 : Int32) <<< (nI a &&& 31))) o := by
  cases e : bt M a
  · left
    refine ⟨h.1, ?_⟩
    intro c hc hM
    rcases (qs_put (by omega)).mp hc with g | g
    · exact h.2 c g hM
    · rw [g, e] at hM; cases hM
  · right
    refine ⟨?_, h.2⟩
    intro c hc
    rcases (qs_put (by omega)).mp hc with g | g
    · exact h.1 c g
    · rw [g]; exact e
theorem qs_cnput {x : Int32} {a : Nat} (ha : a < 6) (h : bt x a = false) : qs_cn x < qs_cn (x ||| ((1 : Int32) <<< (nI a &&& 31))) :=
  qs_cnlt qs_orl ha h ((qs_put (by omega)).mpr (Or.inr rfl))
theorem qs_try0 {L k a : Nat} {i' o' b' : Int32} (I : qx_I2 T ms lI lO lA lT (L + 1)) (hk : k + qs_ph lT (L + 1) ≤ 126) (ha : a < 6) (ea : lA L = nI a) (ai : bt (lI L) a = false) (ao : bt (lO L) a = false) (t0 : lT L = 0)
    (C : qs_Con pr kd hd ps ng T (lI L) (lO L ||| ((1 : Int32) <<< (nI a &&& 31))) i' o' b') :
    qx_IJ pr kd hd ps ng T i' o' b' ms lI lO lA (upd lT L 1) (L + 1) (k + 1) := by
  have hL := I.1 L (by omega)
  have p := qs_p2 L (qs_LvL hL)
  refine qs_try I hk C (Or.inl rfl) ?_ ?_ ?_
  · rw [t0, qs_w0, qs_w1]; omega
  · have := qs_cnput ha ao
    have := hL.2.2.2.2.1
    omega
  · intro M hM
    rcases hM with ⟨_, g⟩ | ⟨z, _⟩
    · rcases qs_goodsplit ha g with q | q
      · exact Or.inl q
      · refine Or.inr (Or.inr ⟨pk_us, ?_⟩)
        rw [ea]; exact q
    · rw [t0] at z; exact absurd z (by decide)
theorem qs_try1 {L k a : Nat} {i' o' b' : Int32} (I : qx_I2 T ms lI lO lA lT (L + 1)) (hk : k + qs_ph lT (L + 1) ≤ 126) (ha : a < 6) (ea : lA L = nI a) (ai : bt (lI L) a = false) (ao : bt (lO L) a = false) (t1 : lT L = 1)
    (C : qs_Con pr kd hd ps ng T (lI L ||| ((1 : Int32) <<< (nI a &&& 31))) (lO L) i' o' b') :
    qx_IJ pr kd hd ps ng T i' o' b' ms lI lO lA (upd lT L 2) (L + 1) (k + 1) := by
  have hL := I.1 L (by omega)
  have p := qs_p2 L (qs_LvL hL)
  refine qs_try I hk C (Or.inr rfl) ?_ ?_ ?_
  · rw [t1, qs_w1, qs_w2]; omega
  · have := qs_cnput ha ai
    have := hL.2.2.2.2.1
    omega
  · intro M hM
    rcases hM with ⟨z, _⟩ | ⟨_, g⟩
    · rw [t1] at z; exact absurd z (by decide)
    · rw [ea] at g; exact Or.inl g
theorem qs_pop {L : Nat} (I : qx_I2 T ms lI lO lA lT (L + 1)) (t2 : lT L = 2) : qx_I2 T ms lI lO lA lT L := by
  refine ⟨fun l hl => I.1 l (by omega), fun m hm hT => ?_, I.2.2⟩
  rcases I.2.1 m hm hT with h | ⟨l, hl, h⟩
  · exact Or.inl h
  · rcases Nat.lt_or_ge l L with g | g
    · exact Or.inr ⟨l, g, h⟩
    · have e : l = L := by omega
      rw [e] at h
      rcases h with ⟨z, _⟩ | ⟨z, _⟩
      · rw [t2] at z; exact absurd z (by decide)
      · rw [t2] at z; exact absurd z (by decide)
theorem qs_opn {L k a : Nat} (I : qx_IJ pr kd hd ps ng T i o b ms lI lO lA lT L k) (hb : b = 0) (ha : a < 6) (ai : bt i a = false) (ao : bt o a = false) :
    qx_I2 T ms (upd lI L i) (upd lO L o) (upd lA L (nI a)) (upd lT L 0) (L + 1) ∧ k + qs_ph (upd lT L 0) (L + 1) ≤ 126 := by
  obtain ⟨hL, ok, hF, h6, hk, hM, hS⟩ := I
  have hn : ∀ (f : Nat → Int32) (x : Int32) (l : Nat), l < L → upd f L x l = f l := fun f x l hl => pk_un (by omega)
  refine ⟨⟨?_, ?_, hS⟩, ?_⟩
  · intro l hl
    rcases Nat.lt_or_ge l L with g | g
    · unfold qs_Lv
      rw [hn lI i l g, hn lO o l g, hn lA (nI a) l g, hn lT 0 l g]
      exact hL l g
    · have e : l = L := by omega
      rw [e]
      unfold qs_Lv
      rw [pk_us, pk_us, pk_us, pk_us]
      exact ⟨ok.1, ok.2.1, ok.2.2.2 hb, ⟨a, ha, rfl, ai, ao⟩, (hF hb).2, Or.inl rfl⟩
  · intro m hm hT
    rcases hM m hm hT with h | h | ⟨l, hl, h⟩
    · exact Or.inl h
    · refine Or.inr ⟨L, by omega, Or.inl ⟨pk_us, ?_⟩⟩
      rw [pk_us, pk_us]; exact h.2
    · refine Or.inr ⟨l, by omega, ?_⟩
      unfold qs_pd
      rw [hn lI i l hl, hn lO o l hl, hn lA (nI a) l hl, hn lT 0 l hl]
      exact h
  · show k + (qs_ph (upd lT L 0) L + qs_w L (upd lT L 0 L)) ≤ 126
    rw [pk_us, qs_w0, qs_ph_eq L (fun l hl => hn lT 0 l hl)]
    omega
theorem qs_brk {L k : Nat} (I : qx_IJ pr kd hd ps ng T i o b ms lI lO lA lT L k) (hb : ¬ b = 0) : qx_I2 T ms lI lO lA lT L ∧ k + qs_ph lT L ≤ 126 := by
  obtain ⟨hL, ok, hF, h6, hk, hM, hS⟩ := I
  refine ⟨⟨hL, fun m hm hT => ?_, hS⟩, by omega⟩
  rcases hM m hm hT with h | h | h
  · exact Or.inl h
  · exact absurd h.1 hb
  · exact Or.inr h
/-- a settled state that keeps to the rules is stable -/
def qs_TE (pr : Int32) (kd hd ps ng : Nat → Int32) (T : Int32 → Prop) : Prop := ∀ i o, qs_Sm i → qs_Dj i o → (∀ a, a < 6 → bt i a = true ∨ bt o a = true) → qs_Fix pr kd hd ps ng i o → T i
theorem qs_fnd {L k : Nat} (TE : qs_TE pr kd hd ps ng T) (I : qx_IJ pr kd hd ps ng T i o b ms lI lO lA lT L k) (hb : b = 0) (ht : (i ||| o) = 63) :
    qx_I2 T (ms ||| ((1 : Int64) <<< (i.toInt64 &&& 63))) lI lO lA lT L ∧ k + qs_ph lT L ≤ 126 := by
  obtain ⟨hL, ok, hF, h6, hk, hM, hS⟩ := I
  have hall := (qs_all ok.1 ok.2.1).mp ht
  have hT : T i := TE i o ok.1 (ok.2.2.2 hb) hall (hF hb).1
  obtain ⟨c, hc, ei⟩ := qs_Nof ok.1
  refine ⟨⟨hL, fun m hm hTm => ?_, fun m hm hbit => ?_⟩, by omega⟩
  · rcases hM m hm hTm with h | h | h
    · left; rw [ei]; exact (qs_mbor hc).mpr (Or.inl h)
    · left
      have e : nI m = i := by
        apply qs_anti
        · intro d hd1
          rcases hall d (qs_smN hm d hd1) with g | g
          · exact g
          · exact (h.2.2 d g hd1).elim
        · exact h.2.1
      rw [ei] at e ⊢
      exact (qs_mbor hc).mpr (Or.inr ((nI_eq (by omega) (by omega)).mp e))
    · exact Or.inr h
  · rw [ei] at hbit
    rcases (qs_mbor hc).mp hbit with h | h
    · exact hS m hm h
    · rw [h, ← ei]; exact hT
end
end
section
/-! the walks that begin a level, try its atom, and search -/
section
variable {pr i o b mv kn : Int32} {ms : Int64} {kd hd ps ng lI lO lA lT : Nat → Int32} {T : Int32 → Prop}
theorem qx_o31 {post : SX → Prop} {L : Nat} (hL : L < 8) (h : ∀ a, a < 6 → bt i a = false → bt o a = false → post (pr, i, o, b, mv, kn, ms, kd, hd, ps, ng, lI, lO, upd lA L (nI a), lT)) :
    ∀ d a, a + d = 6 → (∃ c, a ≤ c ∧ c < 6 ∧ bt i c = false ∧ bt o c = false) → wX_open_31 post (nI L) pr i o b mv kn ms kd hd ps ng lI lO lA lT (d + 1) (nI a) := by
  intro d
  induction d with
  | zero =>
    intro a ha hc
    obtain ⟨c, h1, h2, _⟩ := hc
    omega
  | succ d ih =>
    intro a ha hc
    have hv : vp_in (nI L) 8 := vp_in_nI hL (by decide)
    refine br_c (fun e => ⟨hv, ?_⟩) (fun e => nm_r (nI_1 a) (ih (a + 1) (by omega) ?_))
    · have e1 := (qs_bit0 (by omega)).mp e
      rw [b_or, Bool.or_eq_false_iff] at e1
      refine nm_r (e' := upd lA L (nI a)) ?_ (h a (by omega) e1.1 e1.2)
      rw [nI_clamp (by omega), qs_nar a (by omega)]
    · obtain ⟨c, h1, h2, h3, h4⟩ := hc
      refine ⟨c, ?_, h2, h3, h4⟩
      rcases Nat.lt_or_ge a c with g | g
      · exact g
      · exfalso
        apply e
        rw [qs_bit0 (by omega), show a = c by omega, b_or, h3, h4]
        rfl
theorem qx_open {post : SX → Prop} {L : Nat} (hL : L < 8) (hi : qs_Sm i) (ho : qs_Sm o) (hn : ¬ (i ||| o) = 63)
    (h : ∀ a, a < 6 → bt i a = false → bt o a = false → post (pr, i, o, b, mv, kn, ms, kd, hd, ps, ng, upd lI L i, upd lO L o, upd lA L (nI a), upd lT L 0)) : wpX_open post (pr, i, o, b, mv, kn, ms, kd, hd, ps, ng, lI, lO, lA, lT) (nI L) := by
  have hv : vp_in (nI L) 8 := vp_in_nI hL (by decide)
  have ec : (nI L).toNatClampNeg = L := nI_clamp (by omega)
  obtain ⟨c, h1, h2, h3⟩ := qs_nall hi ho hn
  refine And.intro hv (nm_r (e' := upd lI L i) (by rw [ec, qs_narS hi]) (And.intro hv (nm_r (e' := upd lO L o) (by rw [ec, qs_narS ho]) (And.intro hv (nm_r (e' := upd lT L 0) (by rw [ec, qs_nar0]) ?_)))))
  exact ⟨7, qx_o31 hL h 6 0 rfl ⟨c, Nat.zero_le _, h1, h2, h3⟩⟩
theorem qx_t66 {post : SX → Prop} {l : Nat} {t' : Int32} (V : qs_V kd hd ps ng) (TS : qs_TS pr kd hd ps ng T) (hl : l < 8) (hi : qs_Sm i) (ho : qs_Sm o) (hj : qs_Dj i o) (ht : vp_nar .byte ((lT l + 1).toInt8.toInt32) = t')
    (h : ∀ i' o' b' v', qs_Con pr kd hd ps ng T i o i' o' b' → post (pr, i', o', b', v', kn, ms, kd, hd, ps, ng, lI, lO, lA, upd lT l t')) : wX_tryNext_66 post (nI l) pr i o 0 mv kn ms kd hd ps ng lI lO lA lT := by
  have hv : vp_in (nI l) 8 := vp_in_nI hl (by decide)
  have ec : (nI l).toNatClampNeg = l := nI_clamp (by omega)
  refine And.intro hv (And.intro hv (nm_r (e' := upd lT l t') (by rw [ec, ht]) ?_))
  exact qx_conclude (T := T) V TS hi ho hj h
theorem qx_tryNext {post : SX → Prop} {l a : Nat} (V : qs_V kd hd ps ng) (TS : qs_TS pr kd hd ps ng T) (hl : l < 8) (hi : qs_Sm (lI l)) (ho : qs_Sm (lO l)) (hj : qs_Dj (lI l) (lO l)) (ha : a < 6) (ea : lA l = nI a) (ai : bt (lI l) a = false) (ao : bt (lO l) a = false) (ht : lT l = 0 ∨ lT l = 1)
    (h0 : lT l = 0 → ∀ i' o' b' v', qs_Con pr kd hd ps ng T (lI l) (lO l ||| ((1 : Int32) <<< (nI a &&& 31))) i' o' b' → post (pr, i', o', b', v', kn, ms, kd, hd, ps, ng, lI, lO, lA, upd lT l 1))
    (h1 : lT l = 1 → ∀ i' o' b' v', qs_Con pr kd hd ps ng T (lI l ||| ((1 : Int32) <<< (nI a &&& 31))) (lO l) i' o' b' → post (pr, i', o', b', v', kn, ms, kd, hd, ps, ng, lI, lO, lA, upd lT l 2)) : wpX_tryNext post (pr, i, o, b, mv, kn, ms, kd, hd, ps, ng, lI, lO, lA, lT) (nI l) := by
  have hv : vp_in (nI l) 8 := vp_in_nI hl (by decide)
  have ec : (nI l).toNatClampNeg = l := nI_clamp (by omega)
  unfold wpX_tryNext
  dsimp only
  rw [ec]
  refine And.intro hv (nm_e (And.intro hv (nm_e (And.intro hv (nm_r (e' := (1 : Int32) <<< (nI a &&& 31)) (by rw [ea]) (And.intro hv ?_))))))
  rcases ht with t | t
  · refine br_t t (nm_e ?_)
    refine qx_t66 (T := T) V TS hl hi (qs_smor ho (qs_smone ha)) ?_ (by rw [t]; exact qs_nart0) (h0 t)
    intro c hc hd1
    rcases (qs_put (by omega)).mp hd1 with g | g
    · exact hj c hc g
    · rw [g, ai] at hc; cases hc
  · refine br_f (by rw [t]; decide) (nm_e ?_)
    refine qx_t66 (T := T) V TS hl (qs_smor hi (qs_smone ha)) ho ?_ (by rw [t]; exact qs_nart1) (h1 t)
    intro c hc hd1
    rcases (qs_put (by omega)).mp hc with g | g
    · exact hj c g hd1
    · rw [g, ao] at hd1; cases hd1
theorem qx_s123 {post : SX → Prop} {J43 : Int32 → Int32 → Int32 → Int32 → Int32 → Int32 → Int32 → Int32 → Int32 → Int64 → (Nat → Int32) → (Nat → Int32) → (Nat → Int32) → (Nat → Int32) → (Nat → Int32) → (Nat → Int32) → (Nat → Int32) → (Nat → Int32) → Prop} {k : Nat} (V : qs_V kd hd ps ng) (TS : qs_TS pr kd hd ps ng T)
    (hp : (∀ m, m < 64 → (qs_mb ms m = true ↔ T (nI m))) → post (pr, i, o, b, mv, kn, ms, kd, hd, ps, ng, lI, lO, lA, lT))
    (hJ : ∀ L i' o' b' v' lT', qx_IJ pr kd hd ps ng T i' o' b' ms lI lO lA lT' L (k + 1) → J43 (nI L) 1 (nI (k + 1)) pr i' o' b' v' kn ms kd hd ps ng lI lO lA lT') :
    ∀ L n, L < n → qx_I2 T ms lI lO lA lT L → k + qs_ph lT L ≤ 126 → wX_search_123 post J43 (nI k) pr i o b mv kn ms kd hd ps ng lI lO lA lT n (nI L) := by
  intro L
  induction L with
  | zero =>
    intro n hn I hk
    obtain ⟨n, rfl⟩ : ∃ n', n = n' + 1 := ⟨n - 1, by omega⟩
    refine pk_le 0 0 (fun _ => ?_) (fun z => absurd z (by omega))
    refine br_t nI_0 (hp (fun m hm => ⟨I.2.2 m hm, fun hT => ?_⟩))
    rcases I.2.1 m hm hT with h | ⟨l, hl, _⟩
    · exact h
    · omega
  | succ L ih =>
    intro n hn I hk
    obtain ⟨n, rfl⟩ : ∃ n', n = n' + 1 := ⟨n - 1, by omega⟩
    have hLv := I.1 L (by omega)
    have hL6 := qs_LvL hLv
    have hv : vp_in (nI L) 8 := vp_in_nI (by omega) (by decide)
    refine br_f (nI_nle (by omega) (by omega)) ?_
    rw [nI_pred, nI_clamp (n := L) (by omega)]
    refine ⟨hv, br_c (fun t2 => nm_r (pk_m1 L) (ih n (by omega) (qs_pop I t2) ?_)) (fun t2 => ?_)⟩
    · have e2 : qs_ph lT (L + 1) = qs_ph lT L + qs_w L (lT L) := rfl
      omega
    · obtain ⟨g1, g2, g3, ⟨a, ha, ea, ai, ao⟩, g5, g6⟩ := hLv
      refine br_f (nI_ne0 (by omega) (by omega)) ?_
      rw [nI_pred]
      refine qx_tryNext (T := T) V TS (by omega) g1 g2 g3 ha ea ai ao ?_ (fun t i' o' b' v' C => ?_) (fun t i' o' b' v' C => ?_)
      · rcases g6 with q | q | q
        · exact Or.inl q
        · exact Or.inr q
        · exact absurd q t2
      · exact nm_r (nI_1 k) (hJ (L + 1) i' o' b' v' _ (qs_try0 I hk ha ea ai ao t C))
      · exact nm_r (nI_1 k) (hJ (L + 1) i' o' b' v' _ (qs_try1 I hk ha ea ai ao t C))
theorem qx_s43 {post : SX → Prop} (V : qs_V kd hd ps ng) (TS : qs_TS pr kd hd ps ng T) (TE : qs_TE pr kd hd ps ng T)
    (hp : ∀ i o b mv ms lI lO lA lT, (∀ m, m < 64 → (qs_mb ms m = true ↔ T (nI m))) → post (pr, i, o, b, mv, kn, ms, kd, hd, ps, ng, lI, lO, lA, lT)) :
    ∀ d k, k + d = 512 → ∀ L i o b mv ms lI lO lA lT, qx_IJ pr kd hd ps ng T i o b ms lI lO lA lT L k → wX_search_43 post (d + 1) (nI L) 1 (nI k) pr i o b mv kn ms kd hd ps ng lI lO lA lT := by
  intro d
  induction d with
  | zero =>
    intro k hk L i o b mv ms lI lO lA lT I
    have := I.2.2.2.2.1
    omega
  | succ d ih =>
    intro k hk L i o b mv ms lI lO lA lT I
    have hk2 : k < 512 := by omega
    refine br_f (nI_ge (b := 512) hk2 (by decide)) (br_f (by decide) (br_c (fun hb => br_c (fun ht => nm_e ?_) (fun ht => ?_)) (fun hb => ?_)))
    · obtain ⟨I2, hk'⟩ := qs_fnd TE I hb ht
      refine br_f (by decide) (br_t hb (br_t ht ⟨L + 1, ?_⟩))
      exact qx_s123 (T := T) V TS (hp _ _ _ _ _ _ _ _ _) (fun L' i' o' b' v' lT' I' => ih (k + 1) (by omega) L' i' o' b' v' _ _ _ _ _ I') L (L + 1) (by omega) I2 hk'
    · have hL8 : L < 8 := by have := I.2.2.2.1; omega
      refine br_f (by decide) (br_t hb (br_f ht ?_))
      refine qx_open hL8 I.2.1.1 I.2.1.2.1 ht (fun a ha ai ao => nm_r (nI_1 L) ⟨L + 2, ?_⟩)
      obtain ⟨I2, hk'⟩ := qs_opn I hb ha ai ao
      exact qx_s123 (T := T) V TS (hp _ _ _ _ _ _ _ _ _) (fun L' i' o' b' v' lT' I' => ih (k + 1) (by omega) L' i' o' b' v' _ _ _ _ _ I') (L + 1) (L + 2) (by omega) I2 hk'
    · obtain ⟨I2, hk'⟩ := qs_brk I hb
      refine br_f (by decide) (br_f hb ⟨L + 1, ?_⟩)
      exact qx_s123 (T := T) V TS (hp _ _ _ _ _ _ _ _ _) (fun L' i' o' b' v' lT' I' => ih (k + 1) (by omega) L' i' o' b' v' _ _ _ _ _ I') L (L + 1) (by omega) I2 hk'
theorem qx_search {post : SX → Prop} (V : qs_V kd hd ps ng) (hk : kn ≠ 0 → ∀ m, m < 64 → (qs_mb ms m = true ↔ qs_Stb pr kd hd ps ng (nI m)))
    (h : ∀ i o b mv kn ms lI lO lA lT, kn ≠ 0 → (∀ m, m < 64 → (qs_mb ms m = true ↔ qs_Stb pr kd hd ps ng (nI m))) → post (pr, i, o, b, mv, kn, ms, kd, hd, ps, ng, lI, lO, lA, lT)) : wpX_search post (pr, i, o, b, mv, kn, ms, kd, hd, ps, ng, lI, lO, lA, lT) := by
  refine br_c (fun e => ?_) (fun e => h i o b mv kn ms lI lO lA lT e (hk e))
  refine qx_conclude (T := qs_Stb pr kd hd ps ng) V (qs_ts V) qs_sm0 qs_sm0 (fun c hc => by rw [b_0] at hc; cases hc) (fun i' o' b' v' C => ⟨513, ?_⟩)
  refine qx_s43 (T := qs_Stb pr kd hd ps ng) V (qs_ts V) (fun i o hi hj ht hF => qs_end V hi hj ht hF) (fun i o b mv ms lI lO lA lT hm => h i o b mv 1 ms lI lO lA lT (by decide) hm) 512 0 rfl 0 i' o' b' v' 0 lI lO lA lT ?_
  obtain ⟨ok, _, _, c3, c4⟩ := C
  refine ⟨fun l hl => absurd hl (Nat.not_lt_zero l), ok, fun z => ⟨c4 z, Nat.zero_le _⟩, by omega, by show 0 + 0 + (2 ^ (7 - 0) - 2) ≤ 126; decide, ?_, ?_⟩
  · intro m hm hT
    refine Or.inr (Or.inl (c3 _ hT ⟨?_, ?_⟩))
    · intro c hc; rw [b_0] at hc; cases hc
    · intro c hc; rw [b_0] at hc; cases hc
  · intro m _ hb
    rw [qs_mb0] at hb; cases hb
theorem qx_isModel {post : Int32 → Prop} {m : Nat} (hm : m < 64) (h1 : qs_mb ms m = true → post 1) (h0 : qs_mb ms m = false → post 0) : wpX_isModel post (pr, i, o, b, mv, kn, ms, kd, hd, ps, ng, lI, lO, lA, lT) (nI m) :=
  br_c (fun e => h0 ((qs_mbbit hm).mp e)) (fun e => h1 (qs_ft (fun z => e ((qs_mbbit hm).mpr z))))
end
end
section
/-! the reference's own methods -/
/-- which rules are there, on both sides -/
def qs_Th (pr : Int32) (th : Nat → Int32) : Prop := ∀ r, r < 10 → (th r = 0 ↔ bt pr r = false)
section
variable {pr : Int32} {th kd hd ps ng fo be : Nat → Int32}
theorem qy_t38 {post : Int32 → Prop} {r : Nat} {m z : Int32} (Th : qs_Th pr th) (hr : r < 10) (h1 : bt pr r = true → ¬ z = 0 → qs_Dj (ng r) m → post 1) (h0 : ¬ (bt pr r = true ∧ ¬ z = 0 ∧ qs_Dj (ng r) m) → post 0) : wY_taken_38 post (nI r) m z th kd hd ps ng fo be := by
  have hv : vp_in (nI r) 10 := vp_in_nI hr (by decide)
  unfold wY_taken_38
  rw [nI_clamp (n := r) (by omega)]
  refine ⟨hv, br_c (fun e => h0 (fun w => ?_)) (fun e => br_c (fun f => h0 (fun w => w.2.1 f)) (fun f => ⟨hv, br_c (fun g => h1 ?_ f (qs_dj0.mp g)) (fun g => h0 (fun w => g (qs_dj0.mpr w.2.2)))⟩))⟩
  · rw [(Th r hr).mp e] at w; cases w.1
  · exact qs_ft (fun w => e ((Th r hr).mpr w))
theorem qy_taken {post : Int32 → Prop} {r : Nat} {m : Int32} (V : qs_V kd hd ps ng) (Th : qs_Th pr th) (hr : r < 10) (h1 : qs_enS pr kd hd ng m r → post 1) (h0 : ¬ qs_enS pr kd hd ng m r → post 0) : wpY_taken post (th, kd, hd, ps, ng, fo, be) (nI r) m := by
  have hv : vp_in (nI r) 10 := vp_in_nI hr (by decide)
  have hh := (V r hr).2.1
  have h33 : kd r ≠ 2 → (kd r = 0 ∨ bt m (qs_hn hd r) = true) → wY_taken_33 post (nI r) m th kd hd ps ng fo be := fun k2 hy =>
    qy_t38 Th hr (fun a _ c => h1 ⟨a, k2, c, hy⟩) (fun w => h0 (fun q => w ⟨q.1, by decide, q.2.2.1⟩))
  have h37 : ¬ (kd r ≠ 2 ∧ (kd r = 0 ∨ bt m (qs_hn hd r) = true)) → wY_taken_37 post (nI r) m th kd hd ps ng fo be := fun hn =>
    qy_t38 Th hr (fun _ c _ => absurd rfl c) (fun w => h0 (fun q => hn ⟨q.2.1, q.2.2.2⟩))
  unfold wpY_taken
  dsimp only
  rw [nI_clamp (n := r) (by omega)]
  refine ⟨hv, br_c (fun k0 => h33 (by rw [k0]; decide) (Or.inl k0)) (fun k0 => ⟨hv, br_c (fun k1 => ⟨hv, ?_⟩) (fun k1 => h37 (fun w => ?_))⟩)⟩
  · rw [hh.2]
    refine br_c (fun e => h33 (by rw [k1]; decide) (Or.inr ((qs_bit1 (by omega)).mp e))) (fun e => h37 (fun w => ?_))
    rcases w.2 with g | g
    · exact k0 g
    · exact e ((qs_bit1 (by omega)).mpr g)
  · rcases (V r hr).1 with g | g | g
    · exact k0 g
    · exact k1 g
    · exact w.1 g
theorem qy_su23 {post : Int32 → Prop} {J14 : Int32 → Int32 → Prop} {k : Nat} {s m : Int32} (V : qs_V kd hd ps ng) (Th : qs_Th pr th)
    (hJ : J14 (qs_pa (qs_enS pr kd hd ng m) hd ps s 10) (nI (k + 1))) :
    ∀ d r, r + d = 10 → wY_support_23 post J14 m (nI k) th kd hd ps ng fo be (d + 1) (qs_pa (qs_enS pr kd hd ng m) hd ps s r) (nI r) := by
  intro d
  induction d with
  | zero =>
    intro r hr
    have e : r = 10 := by omega
    subst e
    exact br_t (nI_le (a := 10) (by omega) (by decide)) (nm_r (nI_1 k) hJ)
  | succ d ih =>
    intro r hr
    have hr' : r < 10 := by omega
    have hv : vp_in (nI r) 10 := vp_in_nI hr' (by decide)
    have IH := ih (r + 1) (by omega)
    have es : qs_pa (qs_enS pr kd hd ng m) hd ps s (r + 1) = qs_st (qs_enS pr kd hd ng m) hd ps (qs_pa (qs_enS pr kd hd ng m) hd ps s r) r := rfl
    rw [es] at IH
    generalize qs_pa (qs_enS pr kd hd ng m) hd ps s r = t at IH ⊢
    refine br_f (nI_ge (b := 10) hr' (by decide)) ?_
    rw [nI_clamp (n := r) (by omega)]
    refine qy_taken V Th hr' (fun he => br_f (by decide) ⟨hv, br_c (fun e1 => ⟨hv, ?_⟩) (fun e1 => ?_)⟩) (fun he => br_t rfl ?_)
    · rw [qs_st_t he (qs_sub0.mp e1)] at IH
      exact nm_e (nm_r (nI_1 r) IH)
    · rw [qs_st_f (fun z => e1 (qs_sub0.mpr z.2))] at IH
      exact nm_r (nI_1 r) IH
    · rw [qs_st_f (fun z => he z.1)] at IH
      exact nm_r (nI_1 r) IH
theorem qy_su14 {post : Int32 → Prop} {m : Int32} (V : qs_V kd hd ps ng) (Th : qs_Th pr th) (h : post (qs_sup pr kd hd ps ng m)) :
    ∀ d k, k + d = 6 → wY_support_14 post m th kd hd ps ng fo be (d + 1) (qs_it (qs_enS pr kd hd ng m) hd ps k) (nI k) := by
  intro d
  induction d with
  | zero =>
    intro k hk
    have e : k = 6 := by omega
    subst e
    exact br_t (nI_le (a := 6) (by omega) (by decide)) h
  | succ d ih =>
    intro k hk
    refine br_f (nI_ge (b := 6) (by omega) (by decide)) ⟨11, ?_⟩
    exact qy_su23 (s := qs_it (qs_enS pr kd hd ng m) hd ps k) V Th (ih (k + 1) (by omega)) 10 0 rfl
theorem qy_set1 {post : Int32 → Prop} {m : Int32} (h1 : ¬ m < 0) (h2 : ¬ 63 < m) (h : post 1) : wpY_set post (th, kd, hd, ps, ng, fo, be) m := br_f h1 (br_f h2 h)
theorem qy_set0 {post : Int32 → Prop} {m : Int32} (h1 : m < 0 ∨ 63 < m) (h : post 0) : wpY_set post (th, kd, hd, ps, ng, fo, be) m := br_c (fun _ => h) (fun z => br_c (fun _ => h) (fun w => (h1.elim z w).elim))
theorem qy_support {post : Int32 → Prop} {m : Int32} (V : qs_V kd hd ps ng) (Th : qs_Th pr th) (h1 : ¬ m < 0) (h2 : ¬ 63 < m) (h : post (qs_sup pr kd hd ps ng m)) : wpY_support post (th, kd, hd, ps, ng, fo, be) m := by
  unfold wpY_support
  dsimp only
  exact qy_set1 h1 h2 (br_f (by decide) ⟨7, qy_su14 V Th h 6 0 rfl⟩)
theorem qy_st25 {post : Int32 → Prop} {m : Int32} {A : Prop} (Th : qs_Th pr th) (h1 : A → (∀ q, q < 10 → ¬ qs_ban pr kd ps ng m q) → post 1) (h0 : ¬ (A ∧ ∀ q, q < 10 → ¬ qs_ban pr kd ps ng m q) → post 0) :
    ∀ d r, r + d = 10 → ∀ x, (x = 1 ∧ A ∧ ∀ q, q < r → ¬ qs_ban pr kd ps ng m q) ∨ (x = 0 ∧ ¬ (A ∧ ∀ q, q < r → ¬ qs_ban pr kd ps ng m q)) → wY_stable_25 post m th kd hd ps ng fo be (d + 1) x (nI r) := by
  intro d
  induction d with
  | zero =>
    intro r hr x hx
    have e : r = 10 := by omega
    subst e
    refine br_t (nI_le (a := 10) (by omega) (by decide)) ?_
    rcases hx with ⟨rfl, a, c⟩ | ⟨rfl, a⟩
    · exact ⟨rfl, h1 a c⟩
    · exact ⟨rfl, h0 a⟩
  | succ d ih =>
    intro r hr x hx
    have hr' : r < 10 := by omega
    have hv : vp_in (nI r) 10 := vp_in_nI hr' (by decide)
    have hno : ¬ qs_ban pr kd ps ng m r → wY_stable_79 post (wY_stable_25 post m th kd hd ps ng fo be (d + 1)) m x (nI r) 0 th kd hd ps ng fo be := fun hn => by
      rcases hx with ⟨rfl, a, c⟩ | ⟨rfl, a⟩
      · refine br_f (by decide) (br_t rfl (nm_r (nI_1 r) (ih (r + 1) (by omega) 1 (Or.inl ⟨rfl, a, fun q hq => ?_⟩))))
        rcases Nat.lt_or_ge q r with g | g
        · exact c q g
        · rw [show q = r by omega]; exact hn
      · exact br_t rfl (nm_r (nI_1 r) (ih (r + 1) (by omega) 0 (Or.inr ⟨rfl, fun w => a ⟨w.1, fun q hq => w.2 q (by omega)⟩⟩)))
    have hyes : qs_ban pr kd ps ng m r → wY_stable_79 post (wY_stable_25 post m th kd hd ps ng fo be (d + 1)) m x (nI r) 1 th kd hd ps ng fo be := fun hb => by
      have I := ih (r + 1) (by omega) 0 (Or.inr ⟨rfl, fun w => w.2 r (by omega) hb⟩)
      exact br_c (fun _ => nm_r (nI_1 r) I) (fun _ => br_f (by decide) (nm_r (nI_1 r) I))
    refine br_f (nI_ge (b := 10) hr' (by decide)) ?_
    rw [nI_clamp (n := r) (by omega)]
    refine ⟨hv, br_c (fun e => hno (fun w => ?_)) (fun e => ⟨hv, br_c (fun k2 => ⟨hv, br_c (fun e1 => ⟨hv, br_c (fun e2 => hyes ⟨qs_ft (fun w => e ((Th r hr').mpr w)), k2, qs_sub0.mp e1, qs_dj0.mp e2⟩) (fun e2 => hno (fun w => e2 (qs_dj0.mpr w.2.2.2)))⟩) (fun e1 => hno (fun w => e1 (qs_sub0.mpr w.2.2.1)))⟩) (fun k2 => hno (fun w => k2 w.2.1))⟩)⟩
    have w1 := w.1
    rw [(Th r hr').mp e] at w1; cases w1
theorem qy_stable {post : Int32 → Prop} {m : Int32} (V : qs_V kd hd ps ng) (Th : qs_Th pr th) (s1 : ¬ m < 0) (s2 : ¬ 63 < m) (h1 : qs_Stb pr kd hd ps ng m → post 1) (h0 : ¬ qs_Stb pr kd hd ps ng m → post 0) : wpY_stable post (th, kd, hd, ps, ng, fo, be) m := by
  unfold wpY_stable
  dsimp only
  refine qy_set1 s1 s2 (br_f (by decide) ?_)
  refine qy_support V Th s1 s2 (br_c (fun e => ⟨11, ?_⟩) (fun e => ⟨11, ?_⟩))
  · exact qy_st25 (A := qs_sup pr kd hd ps ng m = m) Th (fun a c => h1 ⟨a, c⟩) h0 10 0 rfl 1 (Or.inl ⟨rfl, e, fun q hq => absurd hq (Nat.not_lt_zero q)⟩)
  · exact qy_st25 (A := qs_sup pr kd hd ps ng m = m) Th (fun a c => h1 ⟨a, c⟩) h0 10 0 rfl 0 (Or.inr ⟨rfl, fun w => e w.1⟩)
theorem qy_stableN {post : Int32 → Prop} {m : Int32} (Th : qs_Th pr th) (s : m < 0 ∨ 63 < m) (h0 : post 0) : wpY_stable post (th, kd, hd, ps, ng, fo, be) m := by
  unfold wpY_stable
  dsimp only
  refine qy_set0 s (br_t rfl ⟨11, ?_⟩)
  exact qy_st25 (A := False) Th (fun a => a.elim) (fun _ => h0) 10 0 rfl 0 (Or.inr ⟨rfl, fun w => w.1⟩)
theorem qy_s {m : Nat} (hm : m < 64) : ¬ nI m < 0 ∧ ¬ 63 < nI m := ⟨nI_pos (by omega), nI_nlt (a := 63) (by omega) (by decide)⟩
theorem qy_st1 {post : Int32 → Prop} {m : Nat} (V : qs_V kd hd ps ng) (Th : qs_Th pr th) (hm : m < 64) (hS : qs_Stb pr kd hd ps ng (nI m)) (h : post 1) : wpY_stable post (th, kd, hd, ps, ng, fo, be) (nI m) :=
  qy_stable V Th (qy_s hm).1 (qy_s hm).2 (fun _ => h) (fun z => absurd hS z)
theorem qy_st0 {post : Int32 → Prop} {m : Nat} (V : qs_V kd hd ps ng) (Th : qs_Th pr th) (hm : m < 64) (hS : ¬ qs_Stb pr kd hd ps ng (nI m)) (h : post 0) : wpY_stable post (th, kd, hd, ps, ng, fo, be) (nI m) :=
  qy_stable V Th (qy_s hm).1 (qy_s hm).2 (fun z => absurd z hS) (fun _ => h)
theorem qy_ones4 {post : Int32 → Prop} {x : Int32} (h : post (nI (qs_cn x))) : ∀ d a, a + d = 6 → wY_ones_4 post x th kd hd ps ng fo be (d + 1) (nI (qs_ct x a)) (nI a) := by
  intro d
  induction d with
  | zero =>
    intro a ha
    have e : a = 6 := by omega
    subst e
    exact br_t (nI_le (a := 6) (by omega) (by decide)) h
  | succ d ih =>
    intro a ha
    refine br_f (nI_ge (b := 6) (by omega) (by decide)) (nm_r (e' := nI (qs_ct x (a + 1))) ?_ (nm_r (nI_1 a) (ih (a + 1) (by omega))))
    rw [qs_bitv (by omega), nI_add]
    rfl
theorem qy_ones {post : Int32 → Prop} {x : Int32} (h : post (nI (qs_cn x))) : wpY_ones post (th, kd, hd, ps, ng, fo, be) x := Exists.intro 7 (qy_ones4 h 6 0 rfl)
/-- found: 1 at the stable sets below m -/
def qs_Fo (pr : Int32) (kd hd ps ng fo : Nat → Int32) (n : Nat) : Prop := ∀ m, m < n → (qs_Stb pr kd hd ps ng (nI m) ∧ fo m = 1) ∨ (¬ qs_Stb pr kd hd ps ng (nI m) ∧ fo m = 0)
theorem qy_narb0 : vp_nar .boolean 0 = 0 := rfl
theorem qy_narb1 : vp_nar .boolean 1 = 1 := rfl
theorem qy_foS {n : Nat} {x : Int32} (h : qs_Fo pr kd hd ps ng fo n) (hx : (qs_Stb pr kd hd ps ng (nI n) ∧ x = 1) ∨ (¬ qs_Stb pr kd hd ps ng (nI n) ∧ x = 0)) : qs_Fo pr kd hd ps ng (upd fo n x) (n + 1) := by
  intro m hm
  rcases Nat.lt_or_ge m n with g | g
  · rw [pk_un (by omega)]; exact h m g
  · rw [show m = n by omega, pk_us]; exact hx
theorem qy_work2 {post : SY → Prop} (V : qs_V kd hd ps ng) (Th : qs_Th pr th) (h : ∀ fo, qs_Fo pr kd hd ps ng fo 64 → post (th, kd, hd, ps, ng, fo, be)) :
    ∀ d m, m + d = 64 → ∀ fo, qs_Fo pr kd hd ps ng fo m → wY_work_2 post (d + 1) (nI m) th kd hd ps ng fo be := by
  intro d
  induction d with
  | zero =>
    intro m hm fo hF
    have e : m = 64 := by omega
    subst e
    exact br_t (nI_le (a := 64) (by omega) (by decide)) (h fo hF)
  | succ d ih =>
    intro m hm fo hF
    have hm' : m < 64 := by omega
    have hv : vp_in (nI m) 64 := vp_in_nI hm' (by decide)
    refine br_f (nI_ge (b := 64) hm' (by decide)) ?_
    rw [nI_clamp (n := m) (by omega)]
    by_cases hS : qs_Stb pr kd hd ps ng (nI m)
    · exact qy_st1 V Th hm' hS ⟨hv, nm_r (e' := upd fo m 1) (by rw [qy_narb1]) (nm_r (nI_1 m) (ih (m + 1) (by omega) _ (qy_foS hF (Or.inl ⟨hS, rfl⟩))))⟩
    · exact qy_st0 V Th hm' hS ⟨hv, nm_r (e' := upd fo m 0) (by rw [qy_narb0]) (nm_r (nI_1 m) (ih (m + 1) (by omega) _ (qy_foS hF (Or.inr ⟨hS, rfl⟩))))⟩
theorem qy_work {post : SY → Prop} (V : qs_V kd hd ps ng) (Th : qs_Th pr th) (h : ∀ fo, qs_Fo pr kd hd ps ng fo 64 → post (th, kd, hd, ps, ng, fo, be)) : wpY_work post (th, kd, hd, ps, ng, fo, be) :=
  Exists.intro 65 (qy_work2 V Th h 64 0 rfl fo (fun m hm => absurd hm (Nat.not_lt_zero m)))
end
end
section
/-! the answers' loops, side by side -/
section
variable {pr i o b mv kn : Int32} {ms : Int64} {kd hd ps ng lI lO lA lT th fo be : Nat → Int32}
def qs_MS (pr : Int32) (kd hd ps ng : Nat → Int32) (ms : Int64) : Prop := ∀ m, m < 64 → (qs_mb ms m = true ↔ qs_Stb pr kd hd ps ng (nI m))
theorem qx_m1 {post : Int32 → Prop} {m : Nat} (hM : qs_MS pr kd hd ps ng ms) (hm : m < 64) (hS : qs_Stb pr kd hd ps ng (nI m)) (h : post 1) : wpX_isModel post (pr, i, o, b, mv, kn, ms, kd, hd, ps, ng, lI, lO, lA, lT) (nI m) :=
  qx_isModel hm (fun _ => h) (fun z => absurd ((hM m hm).mpr hS) (by rw [z]; decide))
theorem qx_m0 {post : Int32 → Prop} {m : Nat} (hM : qs_MS pr kd hd ps ng ms) (hm : m < 64) (hS : ¬ qs_Stb pr kd hd ps ng (nI m)) (h : post 0) : wpX_isModel post (pr, i, o, b, mv, kn, ms, kd, hd, ps, ng, lI, lO, lA, lT) (nI m) :=
  qx_isModel hm (fun z => absurd ((hM m hm).mp z) hS) (fun _ => h)
theorem ql_x {m : Nat} (hm : m < 64) : ¬ (63 : Int32) < nI m := nI_nlt (a := 63) (by omega) (by decide)
theorem ql_y {m : Nat} (hm : m < 64) : ¬ (64 : Int32) ≤ nI m := nI_ge (b := 64) hm (by decide)
theorem ql_xe : (63 : Int32) < nI 64 := nI_lt (a := 63) (by omega) (by decide)
theorem ql_ye : (64 : Int32) ≤ nI 64 := nI_le (a := 64) (by omega) (by decide)
theorem ql_models (V : qs_V kd hd ps ng) (Th : qs_Th pr th) (hM : qs_MS pr kd hd ps ng ms) : ∀ d m, m + d = 64 → ∀ x1, ∃ r, (∀ post : Int32 → SX → Prop, post r (pr, i, o, b, mv, kn, ms, kd, hd, ps, ng, lI, lO, lA, lT) → wX_models_8 post pr i o b mv kn ms kd hd ps ng lI lO lA lT (d + 1) x1 (nI m)) ∧ (∀ post : Int32 → Prop, post r → wY_models_4 post th kd hd ps ng fo be (d + 1) x1 (nI m)) := by
  intro d
  induction d with
  | zero =>
    intro m hm x1
    have e : m = 64 := by omega
    subst e
    exact ⟨x1, fun _ h => br_t ql_xe h, fun _ h => br_t ql_ye h⟩
  | succ d ih =>
    intro m hm x1
    have hm' : m < 64 := by omega
    by_cases hS : qs_Stb pr kd hd ps ng (nI m)
    · obtain ⟨r, hX, hY⟩ := ih (m + 1) (by omega) (x1 + 1)
      exact ⟨r, fun post h => br_f (ql_x hm') (qx_m1 hM hm' hS (br_f (by decide) (nm_e (nm_r (nI_1 m) (hX post h))))), fun post h => br_f (ql_y hm') (qy_st1 V Th hm' hS (br_f (by decide) (nm_e (nm_r (nI_1 m) (hY post h)))))⟩
    · obtain ⟨r, hX, hY⟩ := ih (m + 1) (by omega) x1
      exact ⟨r, fun post h => br_f (ql_x hm') (qx_m0 hM hm' hS (br_t rfl (nm_r (Int32.add_zero x1) (nm_r (nI_1 m) (hX post h))))), fun post h => br_f (ql_y hm') (qy_st0 V Th hm' hS (br_t rfl (nm_r (nI_1 m) (hY post h))))⟩
theorem ql_model {k : Int32} (V : qs_V kd hd ps ng) (Th : qs_Th pr th) (hM : qs_MS pr kd hd ps ng ms) : ∀ d m, m + d = 64 → ∀ x2, ∃ r, (∀ post : Int32 → SX → Prop, post r (pr, i, o, b, mv, kn, ms, kd, hd, ps, ng, lI, lO, lA, lT) → wX_model_8 post k pr i o b mv kn ms kd hd ps ng lI lO lA lT (d + 1) x2 (nI m)) ∧ (∀ post : Int32 → Prop, post r → wY_model_4 post k th kd hd ps ng fo be (d + 1) x2 (nI m)) := by
  intro d
  induction d with
  | zero =>
    intro m hm x2
    have e : m = 64 := by omega
    subst e
    exact ⟨-1, fun _ h => br_t ql_xe h, fun _ h => br_t ql_ye h⟩
  | succ d ih =>
    intro m hm x2
    have hm' : m < 64 := by omega
    by_cases hS : qs_Stb pr kd hd ps ng (nI m)
    · by_cases e : x2 = k
      · exact ⟨nI m, fun post h => br_f (ql_x hm') (qx_m1 hM hm' hS (br_f (by decide) (br_t e h))), fun post h => br_f (ql_y hm') (qy_st1 V Th hm' hS (br_f (by decide) (br_t e h)))⟩
      · obtain ⟨r, hX, hY⟩ := ih (m + 1) (by omega) (x2 + 1)
        exact ⟨r, fun post h => br_f (ql_x hm') (qx_m1 hM hm' hS (br_f (by decide) (br_f e (nm_e (nm_r (nI_1 m) (hX post h)))))), fun post h => br_f (ql_y hm') (qy_st1 V Th hm' hS (br_f (by decide) (br_f e (nm_e (nm_r (nI_1 m) (hY post h))))))⟩
    · obtain ⟨r, hX, hY⟩ := ih (m + 1) (by omega) x2
      exact ⟨r, fun post h => br_f (ql_x hm') (qx_m0 hM hm' hS (br_t rfl (nm_r (nI_1 m) (hX post h)))), fun post h => br_f (ql_y hm') (qy_st0 V Th hm' hS (br_t rfl (nm_r (nI_1 m) (hY post h))))⟩
theorem ql_brave (V : qs_V kd hd ps ng) (Th : qs_Th pr th) (hM : qs_MS pr kd hd ps ng ms) : ∀ d m, m + d = 64 → ∀ x1, ∃ r, (∀ post : Int32 → SX → Prop, post r (pr, i, o, b, mv, kn, ms, kd, hd, ps, ng, lI, lO, lA, lT) → wX_brave_8 post pr i o b mv kn ms kd hd ps ng lI lO lA lT (d + 1) x1 (nI m)) ∧ (∀ post : Int32 → Prop, post r → wY_brave_4 post th kd hd ps ng fo be (d + 1) x1 (nI m)) := by
  intro d
  induction d with
  | zero =>
    intro m hm x1
    have e : m = 64 := by omega
    subst e
    exact ⟨x1, fun _ h => br_t ql_xe h, fun _ h => br_t ql_ye h⟩
  | succ d ih =>
    intro m hm x1
    have hm' : m < 64 := by omega
    by_cases hS : qs_Stb pr kd hd ps ng (nI m)
    · obtain ⟨r, hX, hY⟩ := ih (m + 1) (by omega) (x1 ||| nI m)
      exact ⟨r, fun post h => br_f (ql_x hm') (qx_m1 hM hm' hS (br_f (by decide) (nm_e (nm_r (nI_1 m) (hX post h))))), fun post h => br_f (ql_y hm') (qy_st1 V Th hm' hS (br_f (by decide) (nm_e (nm_r (nI_1 m) (hY post h)))))⟩
    · obtain ⟨r, hX, hY⟩ := ih (m + 1) (by omega) x1
      exact ⟨r, fun post h => br_f (ql_x hm') (qx_m0 hM hm' hS (br_t rfl (nm_r (e' := x1) Int32.or_zero (nm_r (nI_1 m) (hX post h))))), fun post h => br_f (ql_y hm') (qy_st0 V Th hm' hS (br_t rfl (nm_r (nI_1 m) (hY post h))))⟩
theorem ql_and63 {x : Int32} (h : qs_Sm x) : x &&& 63 = x := by
  apply qs_anti
  · intro a ha; rw [b_and, Bool.and_eq_true] at ha; exact ha.1
  · intro a ha; rw [b_and, ha, (qs_63 a).mpr (h a ha)]; rfl
theorem ql_cautious (V : qs_V kd hd ps ng) (Th : qs_Th pr th) (hM : qs_MS pr kd hd ps ng ms) : ∀ d m, m + d = 64 → ∀ x1, qs_Sm x1 → ∃ r, (∀ post : Int32 → SX → Prop, post r (pr, i, o, b, mv, kn, ms, kd, hd, ps, ng, lI, lO, lA, lT) → wX_cautious_9 post pr i o b mv kn ms kd hd ps ng lI lO lA lT (d + 1) x1 (nI m)) ∧ (∀ post : Int32 → Prop, post r → wY_cautious_5 post th kd hd ps ng fo be (d + 1) x1 (nI m)) := by
  intro d
  induction d with
  | zero =>
    intro m hm x1 hs
    have e : m = 64 := by omega
    subst e
    exact ⟨x1, fun _ h => br_t ql_xe h, fun _ h => br_t ql_ye h⟩
  | succ d ih =>
    intro m hm x1 hs
    have hm' : m < 64 := by omega
    by_cases hS : qs_Stb pr kd hd ps ng (nI m)
    · obtain ⟨r, hX, hY⟩ := ih (m + 1) (by omega) (x1 &&& nI m) (qs_smand hs)
      exact ⟨r, fun post h => br_f (ql_x hm') (qx_m1 hM hm' hS (br_f (by decide) (nm_e (nm_r (nI_1 m) (hX post h))))), fun post h => br_f (ql_y hm') (qy_st1 V Th hm' hS (br_f (by decide) (nm_e (nm_r (nI_1 m) (hY post h)))))⟩
    · obtain ⟨r, hX, hY⟩ := ih (m + 1) (by omega) x1 hs
      exact ⟨r, fun post h => br_f (ql_x hm') (qx_m0 hM hm' hS (br_t rfl (nm_r (ql_and63 hs) (nm_r (nI_1 m) (hX post h))))), fun post h => br_f (ql_y hm') (qy_st0 V Th hm' hS (br_t rfl (nm_r (nI_1 m) (hY post h))))⟩
theorem ql_find {p q : Int32} (V : qs_V kd hd ps ng) (Th : qs_Th pr th) (hM : qs_MS pr kd hd ps ng ms) (p1 : ¬ p < 0) (p2 : ¬ 63 < p) (q1 : ¬ q < 0) (q2 : ¬ 63 < q) : ∀ d m, m + d = 64 → ∃ r, (∀ post : Int32 → SX → Prop, post r (pr, i, o, b, mv, kn, ms, kd, hd, ps, ng, lI, lO, lA, lT) → wX_find_22 post p q pr i o b mv kn ms kd hd ps ng lI lO lA lT (d + 1) (nI m)) ∧ (∀ post : Int32 → Prop, post r → wY_find_2 post p q th kd hd ps ng fo be (d + 1) (nI m)) := by
  intro d
  induction d with
  | zero =>
    intro m hm
    have e : m = 64 := by omega
    subst e
    exact ⟨-1, fun _ h => br_t ql_xe h, fun _ h => br_t ql_ye h⟩
  | succ d ih =>
    intro m hm
    have hm' : m < 64 := by omega
    obtain ⟨r, hX, hY⟩ := ih (m + 1) (by omega)
    by_cases hS : qs_Stb pr kd hd ps ng (nI m)
    · by_cases e1 : (p &&& (nI m ^^^ (-1))) = 0
      · by_cases e2 : (q &&& nI m) = 0
        · exact ⟨nI m, fun post h => br_f (ql_x hm') (qx_m1 hM hm' hS (br_f (by decide) (br_t e1 (br_t e2 h)))), fun post h => br_f (ql_y hm') (qy_set1 p1 p2 (br_f (by decide) (qy_set1 q1 q2 (br_f (by decide) (br_t e1 (br_t e2 (qy_st1 V Th hm' hS (br_f (by decide) h))))))))⟩
        · exact ⟨r, fun post h => br_f (ql_x hm') (qx_m1 hM hm' hS (br_f (by decide) (br_t e1 (br_f e2 (nm_r (nI_1 m) (hX post h)))))), fun post h => br_f (ql_y hm') (qy_set1 p1 p2 (br_f (by decide) (qy_set1 q1 q2 (br_f (by decide) (br_t e1 (br_f e2 (nm_r (nI_1 m) (hY post h))))))))⟩
      · exact ⟨r, fun post h => br_f (ql_x hm') (qx_m1 hM hm' hS (br_f (by decide) (br_f e1 (nm_r (nI_1 m) (hX post h))))), fun post h => br_f (ql_y hm') (qy_set1 p1 p2 (br_f (by decide) (qy_set1 q1 q2 (br_f (by decide) (br_f e1 (nm_r (nI_1 m) (hY post h)))))))⟩
    · refine ⟨r, fun post h => br_f (ql_x hm') (qx_m0 hM hm' hS (br_t rfl (nm_r (nI_1 m) (hX post h)))), fun post h => br_f (ql_y hm') (qy_set1 p1 p2 (br_f (by decide) (qy_set1 q1 q2 (br_f (by decide) (br_c (fun _ => br_c (fun _ => ?_) (fun _ => nm_r (nI_1 m) (hY post h))) (fun _ => nm_r (nI_1 m) (hY post h)))))))⟩
      exact qy_st0 V Th hm' hS (br_t rfl (nm_r (nI_1 m) (hY post h)))
theorem ql_fewest (V : qs_V kd hd ps ng) (Th : qs_Th pr th) (hM : qs_MS pr kd hd ps ng ms) : ∀ d m, m + d = 64 → ∀ x1, ∃ r, (∀ post : Int32 → SX → Prop, post r (pr, i, o, b, mv, kn, ms, kd, hd, ps, ng, lI, lO, lA, lT) → wX_fewest_8 post pr i o b mv kn ms kd hd ps ng lI lO lA lT (d + 1) x1 (nI m)) ∧ (∀ post : Int32 → Prop, post r → wY_fewest_4 post th kd hd ps ng fo be (d + 1) x1 (nI m)) := by
  intro d
  induction d with
  | zero =>
    intro m hm x1
    have e : m = 64 := by omega
    subst e
    exact ⟨x1, fun _ h => br_t ql_xe h, fun _ h => br_t ql_ye h⟩
  | succ d ih =>
    intro m hm x1
    have hm' : m < 64 := by omega
    by_cases hS : qs_Stb pr kd hd ps ng (nI m)
    · have hc := qs_cnle6 (nI m)
      have hz : ¬ nI (qs_cn (nI m)) < 0 := nI_pos (by omega)
      by_cases e1 : x1 < 0
      · obtain ⟨r, hX, hY⟩ := ih (m + 1) (by omega) (nI (qs_cn (nI m)))
        exact ⟨r, fun post h => br_f (ql_x hm') (qx_m1 hM hm' hS (br_f (by decide) (qx_ones (br_f hz (br_t e1 (nm_r (nI_1 m) (hX post h))))))), fun post h => br_f (ql_y hm') (qy_ones (qy_st1 V Th hm' hS (br_f (by decide) (br_t e1 (nm_r (nI_1 m) (hY post h))))))⟩
      · by_cases e2 : x1 ≤ nI (qs_cn (nI m))
        · obtain ⟨r, hX, hY⟩ := ih (m + 1) (by omega) x1
          exact ⟨r, fun post h => br_f (ql_x hm') (qx_m1 hM hm' hS (br_f (by decide) (qx_ones (br_f hz (br_f e1 (br_t e2 (nm_r (nI_1 m) (hX post h)))))))), fun post h => br_f (ql_y hm') (qy_ones (qy_st1 V Th hm' hS (br_f (by decide) (br_f e1 (br_t e2 (nm_r (nI_1 m) (hY post h)))))))⟩
        · obtain ⟨r, hX, hY⟩ := ih (m + 1) (by omega) (nI (qs_cn (nI m)))
          exact ⟨r, fun post h => br_f (ql_x hm') (qx_m1 hM hm' hS (br_f (by decide) (qx_ones (br_f hz (br_f e1 (br_f e2 (nm_r (nI_1 m) (hX post h)))))))), fun post h => br_f (ql_y hm') (qy_ones (qy_st1 V Th hm' hS (br_f (by decide) (br_f e1 (br_f e2 (nm_r (nI_1 m) (hY post h)))))))⟩
    · obtain ⟨r, hX, hY⟩ := ih (m + 1) (by omega) x1
      exact ⟨r, fun post h => br_f (ql_x hm') (qx_m0 hM hm' hS (br_t rfl (br_t (by decide) (nm_r (nI_1 m) (hX post h))))), fun post h => br_f (ql_y hm') (qy_ones (qy_st0 V Th hm' hS (br_t rfl (nm_r (nI_1 m) (hY post h)))))⟩
/-! maximal -/
def qs_Mx (pr : Int32) (kd hd ps ng : Nat → Int32) (m n : Nat) : Prop := ∀ k, k < n → qs_Stb pr kd hd ps ng (nI k) → k ≠ m → qs_Sub (nI m) (nI k) → False
theorem ql_mono : ∀ m, m < 64 → ∀ k, k < 64 → (nI m &&& (nI k ^^^ (-1))) = 0 → m ≤ k := by decide +kernel
theorem qx_mx4 {post : Int32 → Prop} {m : Nat} (hM : qs_MS pr kd hd ps ng ms) (hm : m < 64) (h1 : qs_Mx pr kd hd ps ng m 64 → post 1) (h0 : ¬ qs_Mx pr kd hd ps ng m 64 → post 0) :
    ∀ d k, k + d = 64 → m < k → qs_Mx pr kd hd ps ng m k → wX_isMaximal_4 post (nI m) pr i o b mv kn ms kd hd ps ng lI lO lA lT (d + 1) (nI k) := by
  intro d
  induction d with
  | zero =>
    intro k hk hmk H
    have e : k = 64 := by omega
    subst e
    exact br_t ql_xe (h1 H)
  | succ d ih =>
    intro k hk hmk H
    have hk' : k < 64 := by omega
    have hnext : (qs_Stb pr kd hd ps ng (nI k) → qs_Sub (nI m) (nI k) → False) → ∀ y, y = nI k + 1 → wX_isMaximal_4 post (nI m) pr i o b mv kn ms kd hd ps ng lI lO lA lT (d + 1) y := fun hn => by
      refine nm_r (nI_1 k) (ih (k + 1) (by omega) (by omega) (fun q hq hS hne hsub => ?_))
      rcases Nat.lt_or_ge q k with g | g
      · exact H q g hS hne hsub
      · have e : q = k := by omega
        rw [e] at hS hsub
        exact hn hS hsub
    refine br_f (ql_x hk') ?_
    by_cases hS : qs_Stb pr kd hd ps ng (nI k)
    · refine qx_m1 hM hk' hS (br_f (by decide) (br_c (fun e => h0 (fun w => w k hk' hS (by omega) (qs_sub0.mp e))) (fun e => hnext (fun _ z => e (qs_sub0.mpr z)))))
    · exact qx_m0 hM hk' hS (br_t rfl (hnext (fun z _ => hS z)))
theorem qx_isMaximal {post : Int32 → Prop} {m : Nat} (hM : qs_MS pr kd hd ps ng ms) (hm : m < 64) (h1 : qs_Mx pr kd hd ps ng m 64 → post 1) (h0 : ¬ qs_Mx pr kd hd ps ng m 64 → post 0) : wpX_isMaximal post (pr, i, o, b, mv, kn, ms, kd, hd, ps, ng, lI, lO, lA, lT) (nI m) := by
  refine nm_r (nI_1 m) (Exists.intro (63 - m + 1) (qx_mx4 hM hm h1 h0 (63 - m) (m + 1) (by omega) (by omega) ?_))
  intro q hq hS hne hsub
  have := ql_mono m hm q (by omega) (qs_sub0.mpr hsub)
  omega
theorem qy_mx24 {post : Int32 → SY → Prop} {J8 : Int32 → Int32 → Prop} {x1 : Int32} {m : Nat} (hF : qs_Fo pr kd hd ps ng fo 64) (hm : m < 64)
    (h1 : qs_Stb pr kd hd ps ng (nI m) → qs_Mx pr kd hd ps ng m 64 → J8 (x1 + 1) (nI (m + 1))) (h0 : ¬ (qs_Stb pr kd hd ps ng (nI m) ∧ qs_Mx pr kd hd ps ng m 64) → J8 x1 (nI (m + 1))) :
    ∀ d k, k + d = 64 → ∀ x3, (x3 = 1 ∧ qs_Stb pr kd hd ps ng (nI m) ∧ qs_Mx pr kd hd ps ng m k) ∨ (x3 = 0 ∧ ¬ (qs_Stb pr kd hd ps ng (nI m) ∧ qs_Mx pr kd hd ps ng m k)) → wY_maximal_24 post J8 x1 (nI m) th kd hd ps ng fo be (d + 1) x3 (nI k) := by
  intro d
  induction d with
  | zero =>
    intro k hk x3 hx
    have e : k = 64 := by omega
    subst e
    refine br_t ql_ye ?_
    rcases hx with ⟨rfl, a, c⟩ | ⟨rfl, a⟩
    · exact br_f (by decide) (nm_e (nm_r (nI_1 m) (h1 a c)))
    · exact br_t rfl (nm_r (nI_1 m) (h0 a))
  | succ d ih =>
    intro k hk x3 hx
    have hk' : k < 64 := by omega
    have hv : vp_in (nI k) 64 := vp_in_nI hk' (by decide)
    refine br_f (ql_y hk') ?_
    rw [nI_clamp (n := k) (by omega)]
    rcases hx with ⟨rfl, a, c⟩ | ⟨rfl, a⟩
    · have hnext : (qs_Stb pr kd hd ps ng (nI k) → k ≠ m → qs_Sub (nI m) (nI k) → False) → ∀ y, y = nI k + 1 → wY_maximal_24 post J8 x1 (nI m) th kd hd ps ng fo be (d + 1) 1 y := fun hn => by
        refine nm_r (nI_1 k) (ih (k + 1) (by omega) 1 (Or.inl ⟨rfl, a, fun q hq hS hne hsub => ?_⟩))
        rcases Nat.lt_or_ge q k with g | g
        · exact c q g hS hne hsub
        · have e : q = k := by omega
          rw [e] at hS hsub hne
          exact hn hS hne hsub
      refine br_f (by decide) ⟨hv, br_c (fun f0 => hnext (fun hS _ _ => ?_)) (fun f0 => pk_eq k m (fun e => hnext (fun _ z _ => z e)) (fun e => br_c (fun e1 => ?_) (fun e1 => hnext (fun _ _ z => e1 (qs_sub0.mpr z)))))⟩
      · rcases hF k hk' with g | g
        · rw [g.2] at f0; exact absurd f0 (by decide)
        · exact g.1 hS
      · refine nm_r (nI_1 k) (ih (k + 1) (by omega) 0 (Or.inr ⟨rfl, fun w => ?_⟩))
        rcases hF k hk' with g | g
        · exact w.2 k (by omega) g.1 e (qs_sub0.mp e1)
        · exact f0 g.2
    · exact br_t rfl (nm_r (nI_1 k) (ih (k + 1) (by omega) 0 (Or.inr ⟨rfl, fun w => a ⟨w.1, fun q hq => w.2 q (by omega)⟩⟩)))
theorem ql_maximal (hM : qs_MS pr kd hd ps ng ms) : ∀ d m, m + d = 64 → ∀ x1, ∃ r, (∀ post : Int32 → SX → Prop, post r (pr, i, o, b, mv, kn, ms, kd, hd, ps, ng, lI, lO, lA, lT) → wX_maximal_8 post pr i o b mv kn ms kd hd ps ng lI lO lA lT (d + 1) x1 (nI m)) ∧ (∀ fo, qs_Fo pr kd hd ps ng fo 64 → ∀ post : Int32 → SY → Prop, post r (th, kd, hd, ps, ng, fo, be) → wY_maximal_8 post th kd hd ps ng fo be (d + 1) x1 (nI m)) := by
  intro d
  induction d with
  | zero =>
    intro m hm x1
    have e : m = 64 := by omega
    subst e
    exact ⟨x1, fun _ h => br_t ql_xe h, fun _ _ _ h => br_t ql_ye h⟩
  | succ d ih =>
    intro m hm x1
    have hm' : m < 64 := by omega
    have hv : vp_in (nI m) 64 := vp_in_nI hm' (by decide)
    have hst : ∀ fo, qs_Fo pr kd hd ps ng fo 64 → (fo m = 1 ∧ qs_Stb pr kd hd ps ng (nI m) ∧ qs_Mx pr kd hd ps ng m 0) ∨ (fo m = 0 ∧ ¬ (qs_Stb pr kd hd ps ng (nI m) ∧ qs_Mx pr kd hd ps ng m 0)) := by
      intro fo hF
      rcases hF m hm' with g | g
      · exact Or.inl ⟨g.2, g.1, fun q hq => absurd hq (Nat.not_lt_zero q)⟩
      · exact Or.inr ⟨g.2, fun w => g.1 w.1⟩
    by_cases hS : qs_Stb pr kd hd ps ng (nI m) ∧ qs_Mx pr kd hd ps ng m 64
    · obtain ⟨r, hX, hY⟩ := ih (m + 1) (by omega) (x1 + 1)
      refine ⟨r, fun post h => br_f (ql_x hm') (qx_m1 hM hm' hS.1 (br_f (by decide) (qx_isMaximal hM hm' (fun _ => br_f (by decide) (nm_e (nm_r (nI_1 m) (hX post h)))) (fun z => absurd hS.2 z)))), fun fo hF post h => br_f (ql_y hm') ⟨hv, nm_r (e' := fo m) (by rw [nI_clamp (by omega)]) ⟨65, ?_⟩⟩⟩
      exact qy_mx24 hF hm' (fun _ _ => hY fo hF post h) (fun z => absurd hS z) 64 0 rfl _ (hst fo hF)
    · obtain ⟨r, hX, hY⟩ := ih (m + 1) (by omega) x1
      refine ⟨r, fun post h => br_f (ql_x hm') ?_, fun fo hF post h => br_f (ql_y hm') ⟨hv, nm_r (e' := fo m) (by rw [nI_clamp (by omega)]) ⟨65, ?_⟩⟩⟩
      · by_cases h1 : qs_Stb pr kd hd ps ng (nI m)
        · exact qx_m1 hM hm' h1 (br_f (by decide) (qx_isMaximal hM hm' (fun z => absurd ⟨h1, z⟩ hS) (fun _ => br_t rfl (nm_r (Int32.add_zero x1) (nm_r (nI_1 m) (hX post h))))))
        · exact qx_m0 hM hm' h1 (br_t rfl (nm_r (Int32.add_zero x1) (nm_r (nI_1 m) (hX post h))))
      · exact qy_mx24 hF hm' (fun z1 z2 => absurd ⟨z1, z2⟩ hS) (fun _ => hY fo hF post h) 64 0 rfl _ (hst fo hF)
theorem qy_maximal {post : Int32 → SY → Prop} (V : qs_V kd hd ps ng) (Th : qs_Th pr th) (h : ∀ fo, qs_Fo pr kd hd ps ng fo 64 → ∃ n8, wY_maximal_8 post th kd hd ps ng fo be n8 0 0) : wpY_maximal post (th, kd, hd, ps, ng, fo, be) := by
  unfold wpY_maximal
  dsimp only
  exact qy_work V Th h
end
end
section
/-! add, remove, rules, matters -/
section
variable {pr i o b mv kn : Int32} {ms : Int64} {kd hd ps ng lI lO lA lT th fo be : Nat → Int32}
theorem qi_put {r a : Nat} (hr : r < 10) : bt (pr ||| ((1 : Int32) <<< (nI r &&& 31))) a = true ↔ bt pr a = true ∨ a = r := qs_put (by omega)
theorem qi_rem {r a : Nat} (hr : r < 10) : bt (pr &&& (((1 : Int32) <<< (nI r &&& 31)) ^^^ (-1))) a = true ↔ bt pr a = true ∧ a ≠ r := by
  rw [qs_diff, qs_one (by omega), decide_eq_false_iff_not]
theorem qi_fiff {x y : Bool} (h : x = true ↔ y = true) : x = false ↔ y = false := by cases x <;> cases y <;> simp_all
theorem qi_thadd {r : Nat} (Th : qs_Th pr th) (hr : r < 10) : qs_Th (pr ||| ((1 : Int32) <<< (nI r &&& 31))) (upd th r 1) := by
  intro q hq
  by_cases e : q = r
  · rw [e, pk_us, (qi_put hr).mpr (Or.inr rfl)]
    exact ⟨fun z => absurd z (by decide), fun z => by cases z⟩
  · rw [pk_un e, Th q hq]
    apply qi_fiff
    rw [qi_put hr]
    exact ⟨Or.inl, fun z => z.resolve_right e⟩
theorem qi_threm {r : Nat} (Th : qs_Th pr th) (hr : r < 10) : qs_Th (pr &&& (((1 : Int32) <<< (nI r &&& 31)) ^^^ (-1))) (upd th r 0) := by
  intro q hq
  by_cases e : q = r
  · rw [e, pk_us]
    refine ⟨fun _ => qs_tf (fun z => ?_), fun _ => rfl⟩
    exact ((qi_rem hr).mp z).2 rfl
  · rw [pk_un e, Th q hq]
    apply qi_fiff
    rw [qi_rem hr]
    exact ⟨fun z => ⟨z, e⟩, fun z => z.1⟩
theorem qi_back {r : Nat} (hr : r < 10) (hb : bt pr r = true) : (pr &&& (((1 : Int32) <<< (nI r &&& 31)) ^^^ (-1))) ||| ((1 : Int32) <<< (nI r &&& 31)) = pr := by
  apply qs_anti
  · intro a ha
    rcases (qi_put hr).mp ha with g | g
    · exact ((qi_rem hr).mp g).1
    · rw [g]; exact hb
  · intro a ha
    by_cases e : a = r
    · exact (qi_put hr).mpr (Or.inr e)
    · exact (qi_put hr).mpr (Or.inl ((qi_rem hr).mpr ⟨ha, e⟩))
theorem qi_Vadd {r hh : Nat} {v1 v3 v4 : Int32} (V : qs_V kd hd ps ng) (h1 : v1 = 0 ∨ v1 = 1 ∨ v1 = 2) (h2 : hh < 6) (h3 : qs_Sm v3) (h4 : qs_Sm v4) : qs_V (upd kd r v1) (upd hd r (nI hh)) (upd ps r v3) (upd ng r v4) := by
  intro q hq
  unfold qs_hn
  by_cases e : q = r
  · rw [e, pk_us, pk_us, pk_us, pk_us, nI_clamp (by omega)]
    exact ⟨h1, ⟨h2, rfl⟩, h3, h4⟩
  · rw [pk_un e, pk_un e, pk_un e, pk_un e]
    exact V q hq
theorem qx_a110 {post : Int32 → SX → Prop} {v3 v4 h : Int32} {r : Nat} (hr : r < 10) (n3 : vp_nar .byte v3.toInt8.toInt32 = v3) (n4 : vp_nar .byte v4.toInt8.toInt32 = v4) (nh : vp_nar .byte h.toInt8.toInt32 = h)
    (H : post (nI r) (pr, i, o, b, mv, 0, ms, kd, upd hd r h, upd ps r v3, upd ng r v4, lI, lO, lA, lT)) : wX_add_110 post v3 v4 (nI r) h (nI r) pr i o b mv kn ms kd hd ps ng lI lO lA lT := by
  have hv : vp_in (nI r) 10 := vp_in_nI hr (by decide)
  have ec : (nI r).toNatClampNeg = r := nI_clamp (by omega)
  exact And.intro hv (nm_r (e' := upd hd r h) (by rw [ec, nh]) (And.intro hv (nm_r (e' := upd ps r v3) (by rw [ec, n3]) (And.intro hv (nm_r (e' := upd ng r v4) (by rw [ec, n4]) H)))))
theorem qx_a56 {post : Int32 → SX → Prop} {v1 v2 v3 v4 h : Int32} (n1 : vp_nar .byte v1.toInt8.toInt32 = v1) (n3 : vp_nar .byte v3.toInt8.toInt32 = v3) (n4 : vp_nar .byte v4.toInt8.toInt32 = v4) (nh : vp_nar .byte h.toInt8.toInt32 = h) (hz : (v1 = 2 ∧ h = 0) ∨ (¬ v1 = 2 ∧ h = v2))
    (hF : (∀ q, q < 10 → bt pr q = true) → post (-2) (pr, i, o, b, mv, kn, ms, kd, hd, ps, ng, lI, lO, lA, lT))
    (hA : ∀ r, r < 10 → bt pr r = false → (∀ q, q < r → bt pr q = true) → post (nI r) (pr ||| ((1 : Int32) <<< (nI r &&& 31)), i, o, b, mv, 0, ms, upd kd r v1, upd hd r h, upd ps r v3, upd ng r v4, lI, lO, lA, lT)) :
    ∀ d r, r + d = 10 → (∀ q, q < r → bt pr q = true) → wX_add_56 post v1 v2 v3 v4 pr i o b mv kn ms kd hd ps ng lI lO lA lT (d + 1) (nI r) := by
  intro d
  induction d with
  | zero =>
    intro r hr hq
    have e : r = 10 := by omega
    subst e
    exact br_t (nI_le (a := 10) (by omega) (by decide)) (hF hq)
  | succ d ih =>
    intro r hr hq
    have hr' : r < 10 := by omega
    have hv : vp_in (nI r) 10 := vp_in_nI hr' (by decide)
    have ec : (nI r).toNatClampNeg = r := nI_clamp (by omega)
    refine br_f (nI_ge (b := 10) hr' (by decide)) (qx_has hr' (fun p1 => br_f (by decide) (nm_r (nI_1 r) (ih (r + 1) (by omega) ?_))) (fun p0 => br_t rfl (nm_e ⟨hv, nm_r (e' := upd kd r v1) (by rw [ec, n1]) ?_⟩)))
    · intro q hq'
      rcases Nat.lt_or_ge q r with g | g
      · exact hq q g
      · rw [show q = r by omega]; exact p1
    · rcases hz with ⟨z1, z2⟩ | ⟨z1, z2⟩
      · subst z2
        exact br_t z1 (qx_a110 hr' n3 n4 nh (hA r hr' p0 hq))
      · subst z2
        exact br_f z1 (qx_a110 hr' n3 n4 nh (hA r hr' p0 hq))
theorem qy_a94 {post : Int32 → SY → Prop} {v3 v4 h : Int32} {r : Nat} (hr : r < 10)
    (H : post (nI r) (th, kd, upd hd r h, upd ps r v3, upd ng r v4, fo, be)) : wY_add_94 post v3 v4 (nI r) h (nI r) th kd hd ps ng fo be := by
  have hv : vp_in (nI r) 10 := vp_in_nI hr (by decide)
  have ec : (nI r).toNatClampNeg = r := nI_clamp (by omega)
  exact And.intro hv (nm_r (e' := upd hd r h) (by rw [ec]) (And.intro hv (nm_r (e' := upd ps r v3) (by rw [ec]) (And.intro hv (nm_r (e' := upd ng r v4) (by rw [ec]) H)))))
theorem qy_a45 {post : Int32 → SY → Prop} {v1 v2 v3 v4 h : Int32} (Th : qs_Th pr th) (hz : (v1 = 2 ∧ h = 0) ∨ (¬ v1 = 2 ∧ h = v2))
    (hF : (∀ q, q < 10 → bt pr q = true) → post (-2) (th, kd, hd, ps, ng, fo, be))
    (hA : ∀ r, r < 10 → bt pr r = false → (∀ q, q < r → bt pr q = true) → post (nI r) (upd th r 1, upd kd r v1, upd hd r h, upd ps r v3, upd ng r v4, fo, be)) :
    ∀ d r, r + d = 10 → (∀ q, q < r → bt pr q = true) → wY_add_45 post v1 v2 v3 v4 th kd hd ps ng fo be (d + 1) (nI r) := by
  intro d
  induction d with
  | zero =>
    intro r hr hq
    have e : r = 10 := by omega
    subst e
    exact br_t (nI_le (a := 10) (by omega) (by decide)) (hF hq)
  | succ d ih =>
    intro r hr hq
    have hr' : r < 10 := by omega
    have hv : vp_in (nI r) 10 := vp_in_nI hr' (by decide)
    have ec : (nI r).toNatClampNeg = r := nI_clamp (by omega)
    refine br_f (nI_ge (b := 10) hr' (by decide)) ?_
    rw [ec]
    refine ⟨hv, br_c (fun e => ⟨hv, nm_r (e' := upd th r 1) (by rw [qy_narb1]) ⟨hv, nm_e ?_⟩⟩) (fun e => nm_r (nI_1 r) (ih (r + 1) (by omega) ?_))⟩
    · have p0 := (Th r hr').mp e
      rcases hz with ⟨z1, z2⟩ | ⟨z1, z2⟩
      · subst z2
        exact br_t z1 (qy_a94 hr' (hA r hr' p0 hq))
      · subst z2
        exact br_f z1 (qy_a94 hr' (hA r hr' p0 hq))
    · intro q hq'
      rcases Nat.lt_or_ge q r with g | g
      · exact hq q g
      · rw [show q = r by omega]; exact qs_ft (fun z => e ((Th r hr').mpr z))
theorem qy_rules4 {post : Int32 → Prop} (Th : qs_Th pr th) (hi : ∀ r, 10 ≤ r → bt pr r = false) (h : post pr) :
    ∀ d r, r + d = 10 → ∀ x1, (∀ a, bt x1 a = true ↔ a < r ∧ bt pr a = true) → wY_rules_4 post th kd hd ps ng fo be (d + 1) x1 (nI r) := by
  intro d
  induction d with
  | zero =>
    intro r hr x1 hx
    have e : r = 10 := by omega
    subst e
    have ex : x1 = pr := by
      apply qs_anti
      · intro a ha; exact ((hx a).mp ha).2
      · intro a ha
        refine (hx a).mpr ⟨?_, ha⟩
        rcases Nat.lt_or_ge a 10 with g | g
        · exact g
        · rw [hi a g] at ha; cases ha
    rw [ex]
    exact br_t (nI_le (a := 10) (by omega) (by decide)) h
  | succ d ih =>
    intro r hr x1 hx
    have hr' : r < 10 := by omega
    have hv : vp_in (nI r) 10 := vp_in_nI hr' (by decide)
    refine br_f (nI_ge (b := 10) hr' (by decide)) ?_
    rw [nI_clamp (n := r) (by omega)]
    refine ⟨hv, br_c (fun e => nm_r (nI_1 r) (ih (r + 1) (by omega) x1 (fun a => ?_))) (fun e => nm_e (nm_r (nI_1 r) (ih (r + 1) (by omega) _ (fun a => ?_))))⟩
    · rw [hx a]
      refine ⟨fun z => ⟨by omega, z.2⟩, fun z => ⟨?_, z.2⟩⟩
      rcases Nat.lt_or_ge a r with g | g
      · exact g
      · have e1 : a = r := by omega
        rw [e1, (Th r hr').mp e] at z
        cases z.2
    · rw [qi_put hr', hx a]
      constructor
      · intro z
        rcases z with g | g
        · exact ⟨by omega, g.2⟩
        · rw [g]; exact ⟨by omega, qs_ft (fun w => e ((Th r hr').mpr w))⟩
      · intro z
        rcases Nat.lt_or_ge a r with g | g
        · exact Or.inl ⟨g, z.2⟩
        · exact Or.inr (by omega)
theorem qy_rules {post : Int32 → Prop} (Th : qs_Th pr th) (hi : ∀ r, 10 ≤ r → bt pr r = false) (h : post pr) : wpY_rules post (th, kd, hd, ps, ng, fo, be) :=
  Exists.intro 11 (qy_rules4 Th hi h 10 0 rfl 0 (fun a => by rw [b_0]; exact ⟨fun z => (by cases z), fun z => absurd z.1 (Nat.not_lt_zero a)⟩))
/-! matters -/
theorem qy_m73 {post : Int32 → SY → Prop} (h1 : (∃ q, q < 64 ∧ ¬ fo q = be q) → post 1 (th, kd, hd, ps, ng, fo, be)) (h0 : (∀ q, q < 64 → fo q = be q) → post 0 (th, kd, hd, ps, ng, fo, be)) :
    ∀ d m, m + d = 64 → ∀ x, (x = 1 ∧ ∃ q, q < m ∧ ¬ fo q = be q) ∨ (x = 0 ∧ ∀ q, q < m → fo q = be q) → wY_matters_73 post th kd hd ps ng fo be (d + 1) x (nI m) := by
  intro d
  induction d with
  | zero =>
    intro m hm x hx
    have e : m = 64 := by omega
    subst e
    refine br_t ql_ye ?_
    rcases hx with ⟨rfl, a⟩ | ⟨rfl, a⟩
    · exact ⟨rfl, h1 a⟩
    · exact ⟨rfl, h0 a⟩
  | succ d ih =>
    intro m hm x hx
    have hm' : m < 64 := by omega
    have hv : vp_in (nI m) 64 := vp_in_nI hm' (by decide)
    refine br_f (ql_y hm') ?_
    rw [nI_clamp (n := m) (by omega)]
    rcases hx with ⟨rfl, q, hq, a⟩ | ⟨rfl, a⟩
    · exact br_f (by decide) (nm_r (nI_1 m) (ih (m + 1) (by omega) 1 (Or.inl ⟨rfl, q, by omega, a⟩)))
    · refine br_t rfl ⟨hv, hv, br_c (fun e => nm_r (nI_1 m) (ih (m + 1) (by omega) 0 (Or.inr ⟨rfl, fun q hq => ?_⟩))) (fun e => nm_r (nI_1 m) (ih (m + 1) (by omega) 1 (Or.inl ⟨rfl, m, by omega, e⟩)))⟩
      rcases Nat.lt_or_ge q m with g | g
      · exact a q g
      · rw [show q = m by omega]; exact e
theorem qy_m27 {post : Int32 → SY → Prop} {r : Nat} (hr : r < 10) (hF : qs_Fo pr kd hd ps ng fo 64)
    (H : ∀ be, (∀ q, q < 64 → be q = fo q) → wpY_work (fun u => match u with | (a1, a2, a3, a4, a5, a6, a7) => (vp_in (nI r) 10 ∧ ∀ a_there_25 : Nat → Int32, a_there_25 = upd a1 (nI r).toNatClampNeg (vp_nar .boolean 1) → (∃ n73 : Nat, wY_matters_73 post a_there_25 a2 a3 a4 a5 a6 a7 n73 0 0))) (upd th r 0, kd, hd, ps, ng, fo, be)) :
    ∀ d m, m + d = 64 → ∀ be, (∀ q, q < m → be q = fo q) → wY_matters_27 post (nI r) (d + 1) (nI m) th kd hd ps ng fo be := by
  have hvr : vp_in (nI r) 10 := vp_in_nI hr (by decide)
  intro d
  induction d with
  | zero =>
    intro m hm be hb
    have e : m = 64 := by omega
    subst e
    exact br_t ql_ye ⟨hvr, nm_r (e' := upd th r 0) (by rw [nI_clamp (by omega), qy_narb0]) (H be hb)⟩
  | succ d ih =>
    intro m hm be hb
    have hm' : m < 64 := by omega
    have hv : vp_in (nI m) 64 := vp_in_nI hm' (by decide)
    refine br_f (ql_y hm') ⟨hv, hv, nm_r (e' := upd be m (fo m)) ?_ (nm_r (nI_1 m) (ih (m + 1) (by omega) _ (fun q hq => ?_)))⟩
    · rw [nI_clamp (by omega)]
      rcases hF m hm' with g | g
      · rw [g.2, qy_narb1]
      · rw [g.2, qy_narb0]
    · rcases Nat.lt_or_ge q m with g | g
      · rw [pk_un (by omega)]; exact hb q g
      · rw [show q = m by omega, pk_us]
theorem qi_foeq {pr' : Int32} {fo' : Nat → Int32} {q : Nat} (hF : qs_Fo pr kd hd ps ng fo 64) (hF' : qs_Fo pr' kd hd ps ng fo' 64) (hq : q < 64) : fo' q = fo q ↔ (qs_Stb pr kd hd ps ng (nI q) ↔ qs_Stb pr' kd hd ps ng (nI q)) := by
  rcases hF q hq with g | g
  · rcases hF' q hq with g' | g'
    · rw [g.2, g'.2]; exact ⟨fun _ => ⟨fun _ => g'.1, fun _ => g.1⟩, fun _ => rfl⟩
    · rw [g.2, g'.2]; exact ⟨fun z => absurd z (by decide), fun z => absurd (z.mp g.1) g'.1⟩
  · rcases hF' q hq with g' | g'
    · rw [g.2, g'.2]; exact ⟨fun z => absurd z (by decide), fun z => absurd (z.mpr g'.1) g.1⟩
    · rw [g.2, g'.2]; exact ⟨fun _ => ⟨fun z => absurd z g.1, fun z => absurd z g'.1⟩, fun _ => rfl⟩
theorem qy_matters {post : Int32 → SY → Prop} {r : Nat} (V : qs_V kd hd ps ng) (Th : qs_Th pr th) (hr : r < 10) (hb : bt pr r = true)
    (h1 : (∃ q, q < 64 ∧ ¬ (qs_Stb pr kd hd ps ng (nI q) ↔ qs_Stb (pr &&& (((1 : Int32) <<< (nI r &&& 31)) ^^^ (-1))) kd hd ps ng (nI q))) → ∀ fo be, post 1 (upd (upd th r 0) r 1, kd, hd, ps, ng, fo, be))
    (h0 : (∀ q, q < 64 → (qs_Stb pr kd hd ps ng (nI q) ↔ qs_Stb (pr &&& (((1 : Int32) <<< (nI r &&& 31)) ^^^ (-1))) kd hd ps ng (nI q))) → ∀ fo be, post 0 (upd (upd th r 0) r 1, kd, hd, ps, ng, fo, be)) : wpY_matters post (th, kd, hd, ps, ng, fo, be) (nI r) := by
  have hv : vp_in (nI r) 10 := vp_in_nI hr (by decide)
  have ec : (nI r).toNatClampNeg = r := nI_clamp (by omega)
  refine br_f (nI_pos (by omega)) (br_f (nI_nlt (a := 9) (by omega) (by decide)) ⟨hv, br_f ?_ ?_⟩)
  · rw [ec, Th r hr, hb]; decide
  · refine qy_work V Th (fun fo1 hF1 => ⟨65, ?_⟩)
    refine qy_m27 hr hF1 (fun be hbe => ?_) 64 0 rfl be (fun q hq => absurd hq (Nat.not_lt_zero q))
    refine qy_work V (qi_threm Th hr) (fun fo2 hF2 => ⟨hv, nm_r (e' := upd (upd th r 0) r 1) (by rw [ec, qy_narb1]) ⟨65, ?_⟩⟩)
    refine qy_m73 (fun hx => h1 ?_ fo2 be) (fun hx => h0 ?_ fo2 be) 64 0 rfl 0 (Or.inr ⟨rfl, fun q hq => absurd hq (Nat.not_lt_zero q)⟩)
    · obtain ⟨q, hq, hne⟩ := hx
      rw [hbe q hq] at hne
      exact ⟨q, hq, fun z => hne ((qi_foeq hF1 hF2 hq).mpr z)⟩
    · intro q hq
      have := hx q hq
      rw [hbe q hq] at this
      exact (qi_foeq hF1 hF2 hq).mp this
theorem qi_mseq {pr' : Int32} {ms' : Int64} (h : qs_MS pr kd hd ps ng ms) (h' : qs_MS pr' kd hd ps ng ms') : ms = ms' ↔ ∀ q, q < 64 → (qs_Stb pr kd hd ps ng (nI q) ↔ qs_Stb pr' kd hd ps ng (nI q)) := by
  constructor
  · intro e q hq
    rw [← h q hq, ← h' q hq, e]
  · intro H
    apply Int64.toBitVec_inj.mp
    apply BitVec.eq_of_getLsbD_eq
    intro q hq
    show qs_mb ms q = qs_mb ms' q
    have := (h q hq).trans ((H q hq).trans (h' q hq).symm)
    cases hx : qs_mb ms q <;> cases hy : qs_mb ms' q <;> simp_all
end
end
section
/-! the relation and what is owed -/
/-- rules alike, kinds and sets within their ranges, and a search that is known is right -/
def qi_R (pr kn : Int32) (ms : Int64) (kd hd ps ng th : Nat → Int32) : Prop :=
  qs_V kd hd ps ng ∧ qs_Th pr th ∧ (∀ r, 10 ≤ r → bt pr r = false) ∧ (kn ≠ 0 → qs_MS pr kd hd ps ng ms)
def i_Rel (k : Nat) (u : SX) (v : SY) : Prop := match u with
  | (pr, i, o, b, mv, kn, ms, kd, hd, ps, ng, lI, lO, lA, lT) => match v with
    | (th, kd', hd', ps', ng', fo, be) => kd' = kd ∧ hd' = hd ∧ ps' = ps ∧ ng' = ng ∧ qi_R pr kn ms kd hd ps ng th
theorem qi_el {P : SX → SY → Prop} {k : Nat} {u : SX} {v : SY} (I : i_Rel k u v)
    (h : ∀ pr i o b mv kn ms kd hd ps ng lI lO lA lT th fo be, qi_R pr kn ms kd hd ps ng th → P (pr, i, o, b, mv, kn, ms, kd, hd, ps, ng, lI, lO, lA, lT) (th, kd, hd, ps, ng, fo, be)) : P u v := by
  obtain ⟨pr, i, o, b, mv, kn, ms, kd, hd, ps, ng, lI, lO, lA, lT⟩ := u
  obtain ⟨th, kd', hd', ps', ng', fo, be⟩ := v
  obtain ⟨e1, e2, e3, e4, R⟩ := I
  rw [e1, e2, e3, e4]
  exact h pr i o b mv kn ms kd hd ps ng lI lO lA lT th fo be R
section
variable {pr i o b mv kn : Int32} {ms : Int64} {kd hd ps ng lI lO lA lT th fo be : Nat → Int32} {k : Nat}
theorem qi_in (R : qi_R pr kn ms kd hd ps ng th) : i_Rel k (pr, i, o, b, mv, kn, ms, kd, hd, ps, ng, lI, lO, lA, lT) (th, kd, hd, ps, ng, fo, be) := And.intro rfl (And.intro rfl (And.intro rfl (And.intro rfl R)))
theorem qi_srch {post : SX → Prop} (R : qi_R pr kn ms kd hd ps ng th) (h : ∀ i o b mv kn ms lI lO lA lT, qi_R pr kn ms kd hd ps ng th → qs_MS pr kd hd ps ng ms → post (pr, i, o, b, mv, kn, ms, kd, hd, ps, ng, lI, lO, lA, lT)) : wpX_search post (pr, i, o, b, mv, kn, ms, kd, hd, ps, ng, lI, lO, lA, lT) :=
  qx_search R.1 R.2.2.2 (fun i o b mv kn ms lI lO lA lT hk hm => h i o b mv kn ms lI lO lA lT ⟨R.1, R.2.1, R.2.2.1, fun _ => hm⟩ hm)
theorem qi_isSet1 {post : Int32 → Prop} {m : Int32} (h1 : ¬ m < 0) (h2 : ¬ 63 < m) (h : post 1) : wpX_isSet post m := br_f h1 (br_f h2 h)
theorem qi_isSet0 {post : Int32 → Prop} {m : Int32} (h1 : m < 0 ∨ 63 < m) (h : post 0) : wpX_isSet post m := br_c (fun _ => h) (fun z => br_c (fun _ => h) (fun w => (h1.elim z w).elim))
theorem qi_set (m : Int32) : (m < 0 ∨ 63 < m) ∨ (¬ m < 0 ∧ ¬ 63 < m ∧ ∃ j, j < 64 ∧ m = nI j) := by
  by_cases h1 : m < 0
  · exact Or.inl (Or.inl h1)
  · by_cases h2 : 63 < m
    · exact Or.inl (Or.inr h2)
    · obtain ⟨j, hj, e⟩ := nI_of2 (M := 63) (n := 63) (by decide) h1 (Int32.not_lt.mp h2)
      exact Or.inr ⟨h1, h2, j, by omega, e⟩
end
theorem i_up {k : Nat} {u : SX} {v : SY} (h : i_Rel k u v) : i_Rel (k + 5) u v := h
theorem i_vc0 : wpX_init (fun u => wpY_init (fun v => i_Rel 0 u v)) := by
  have R : qi_R 0 0 0 (fun _ => 0) (fun _ => 0) (fun _ => 0) (fun _ => 0) (fun _ => 0) := by
    refine ⟨?_, ?_, ?_, ?_⟩
    · intro r hr
      exact ⟨Or.inl rfl, ⟨(by decide : (0 : Int32).toNatClampNeg < 6), (by decide : (0 : Int32) = nI (0 : Int32).toNatClampNeg)⟩, qs_sm0, qs_sm0⟩
    · intro r hr
      exact ⟨fun _ => b_0 r, fun _ => rfl⟩
    · intro r hr
      exact b_0 r
    · intro z
      exact absurd rfl z
  unfold wpX_init wpY_init
  exact qi_in R
theorem i_vc_add {k : Nat} {u : SX} {v : SY} (I : i_Rel k u v) (hk : k + 5 ≤ 2560) (v1 : Int32) (v2 : Int32) (v3 : Int32) (v4 : Int32) : wpX_add (fun r u' => wpY_add (fun r' v' => r' = r ∧ i_Rel (k + 5) u' v') v v1 v2 v3 v4) u v1 v2 v3 v4 := by
  refine qi_el (P := fun u v => wpX_add (fun r u' => wpY_add (fun r' v' => r' = r ∧ i_Rel (k + 5) u' v') v v1 v2 v3 v4) u v1 v2 v3 v4) I ?_
  intro pr i o b mv kn ms kd hd ps ng lI lO lA lT th fo be R
  have FX : ∀ post : Int32 → SX → Prop, (∀ z, wX_add_20 post v1 v2 v3 v4 z pr i o b mv kn ms kd hd ps ng lI lO lA lT) → wpX_add post (pr, i, o, b, mv, kn, ms, kd, hd, ps, ng, lI, lO, lA, lT) v1 v2 v3 v4 := fun post H =>
    br_c (fun _ => H 1) (fun _ => br_c (fun _ => H 0) (fun _ => br_c (fun _ => H 0) (fun _ => H 1)))
  by_cases a1 : v1 < 0
  · exact FX _ (fun z => br_t a1 (br_t a1 ⟨rfl, qi_in R⟩))
  by_cases a2 : 2 < v1
  · exact FX _ (fun z => br_f a1 (br_t a2 (br_f a1 (br_t a2 ⟨rfl, qi_in R⟩))))
  by_cases a3 : v1 = 2 ∨ (¬ v2 < 0 ∧ ¬ 6 ≤ v2)
  · have GX : ∀ post : Int32 → SX → Prop, wX_add_20 post v1 v2 v3 v4 1 pr i o b mv kn ms kd hd ps ng lI lO lA lT → wpX_add post (pr, i, o, b, mv, kn, ms, kd, hd, ps, ng, lI, lO, lA, lT) v1 v2 v3 v4 := fun post H => by
      rcases a3 with h | h
      · exact br_t h H
      · exact br_c (fun _ => H) (fun _ => br_f h.1 (br_f h.2 H))
    have GY : ∀ post : Int32 → SY → Prop, wY_add_23 post v1 v2 v3 v4 th kd hd ps ng fo be → wpY_add post (th, kd, hd, ps, ng, fo, be) v1 v2 v3 v4 := fun post H => by
      rcases a3 with h | h
      · exact br_f a1 (br_f a2 (br_t h H))
      · refine br_f a1 (br_f a2 (br_c (fun _ => H) (fun _ => br_f h.1 (br_f (fun z => h.2 ?_) H))))
        rw [Int32.lt_iff_toInt_lt] at z
        rw [Int32.le_iff_toInt_le]
        rw [show (5 : Int32).toInt = 5 from by decide] at z
        rw [show (6 : Int32).toInt = 6 from by decide]
        omega
    rcases qi_set v3 with b3 | ⟨c3, d3, j3, hj3, e3⟩
    · exact GX _ (br_f a1 (br_f a2 (br_f (by decide) (qi_isSet0 b3 (br_t rfl (GY _ (qy_set0 b3 (br_t rfl ⟨rfl, qi_in R⟩))))))))
    rcases qi_set v4 with b4 | ⟨c4, d4, j4, hj4, e4⟩
    · exact GX _ (br_f a1 (br_f a2 (br_f (by decide) (qi_isSet1 c3 d3 (br_f (by decide) (qi_isSet0 b4 (br_t rfl (GY _ (qy_set1 c3 d3 (br_f (by decide) (qy_set0 b4 (br_t rfl ⟨rfl, qi_in R⟩))))))))))))
    obtain ⟨j1, hj1, e1⟩ := nI_of2 (M := 2) (n := 2) (by decide) a1 (Int32.not_lt.mp a2)
    have k1 : v1 = 0 ∨ v1 = 1 ∨ v1 = 2 := by
      rcases (show j1 = 0 ∨ j1 = 1 ∨ j1 = 2 by omega) with h | h | h
      · left; rw [e1, h]; rfl
      · right; left; rw [e1, h]; rfl
      · right; right; rw [e1, h]; rfl
    have hh : ∃ h, h < 6 ∧ ((v1 = 2 ∧ nI h = 0) ∨ (¬ v1 = 2 ∧ nI h = v2)) := by
      by_cases q : v1 = 2
      · exact ⟨0, by omega, Or.inl ⟨q, rfl⟩⟩
      · obtain ⟨q1, q2⟩ := a3.resolve_left q
        obtain ⟨h, hh, e⟩ := nI_of q1
        refine ⟨h, ?_, Or.inr ⟨q, e.symm⟩⟩
        rw [e] at q2
        rcases Nat.lt_or_ge h 6 with g | g
        · exact g
        · exact absurd (nI_le (a := 6) g hh) q2
    obtain ⟨h, hh6, hz⟩ := hh
    have s3 : qs_Sm v3 := by rw [e3]; exact qs_smN hj3
    have s4 : qs_Sm v4 := by rw [e4]; exact qs_smN hj4
    have n1 : vp_nar .byte v1.toInt8.toInt32 = v1 := by rw [e1]; exact qs_nar j1 (by omega)
    refine GX _ (br_f a1 (br_f a2 (br_f (by decide) (qi_isSet1 c3 d3 (br_f (by decide) (qi_isSet1 c4 d4 (br_f (by decide) ⟨11, ?_⟩)))))))
    refine qx_a56 n1 (qs_narS s3) (qs_narS s4) (qs_nar h (by omega)) hz (fun hF => ?_) (fun r hr p0 hq => ?_) 10 0 rfl (fun q hq => absurd hq (Nat.not_lt_zero q))
    · refine GY _ (qy_set1 c3 d3 (br_f (by decide) (qy_set1 c4 d4 (br_f (by decide) ⟨11, ?_⟩))))
      refine qy_a45 R.2.1 hz (fun _ => ⟨rfl, qi_in R⟩) (fun r hr p0 _ => ?_) 10 0 rfl (fun q hq => absurd hq (Nat.not_lt_zero q))
      rw [hF r hr] at p0; cases p0
    · refine GY _ (qy_set1 c3 d3 (br_f (by decide) (qy_set1 c4 d4 (br_f (by decide) ⟨11, ?_⟩))))
      refine qy_a45 R.2.1 hz (fun hF => ?_) (fun r' hr' p0' hq' => ?_) 10 0 rfl (fun q hq => absurd hq (Nat.not_lt_zero q))
      · rw [hF r hr] at p0; cases p0
      · have e : r' = r := by
          rcases Nat.lt_trichotomy r' r with g | g | g
          · rw [hq r' g] at p0'; cases p0'
          · exact g
          · rw [hq' r g] at p0; cases p0
        rw [e]
        refine ⟨rfl, qi_in ⟨qi_Vadd R.1 k1 hh6 s3 s4, qi_thadd R.2.1 hr, ?_, fun z => absurd rfl z⟩⟩
        intro q hq10
        apply qs_tf
        intro z
        rcases (qi_put hr).mp z with g | g
        · rw [R.2.2.1 q hq10] at g; cases g
        · omega
  · have a4 : ¬ v1 = 2 := fun z => a3 (Or.inl z)
    have GY : ∀ post : Int32 → SY → Prop, post (-1) (th, kd, hd, ps, ng, fo, be) → wpY_add post (th, kd, hd, ps, ng, fo, be) v1 v2 v3 v4 := fun post H => by
      refine br_f a1 (br_f a2 (br_f a4 (br_c (fun _ => H) (fun z => br_t ?_ H))))
      have h6 : 6 ≤ v2 := Classical.byContradiction (fun w => a3 (Or.inr ⟨z, w⟩))
      rw [Int32.le_iff_toInt_le] at h6
      rw [Int32.lt_iff_toInt_lt]
      rw [show (6 : Int32).toInt = 6 from by decide] at h6
      rw [show (5 : Int32).toInt = 5 from by decide]
      omega
    have H : wX_add_20 (fun r u' => wpY_add (fun r' v' => r' = r ∧ i_Rel (k + 5) u' v') (th, kd, hd, ps, ng, fo, be) v1 v2 v3 v4) v1 v2 v3 v4 0 pr i o b mv kn ms kd hd ps ng lI lO lA lT := br_f a1 (br_f a2 (br_t rfl (GY _ ⟨rfl, qi_in R⟩)))
    refine br_f a4 (br_c (fun _ => H) (fun z => br_t ?_ H))
    exact Classical.byContradiction (fun w => a3 (Or.inr ⟨z, w⟩))
theorem i_vc_remove {k : Nat} {u : SX} {v : SY} (I : i_Rel k u v) (hk : k + 5 ≤ 2560) (v1 : Int32) : wpX_remove (fun r u' => wpY_remove (fun r' v' => r' = r ∧ i_Rel (k + 5) u' v') v v1) u v1 := by
  refine qi_el (P := fun u v => wpX_remove (fun r u' => wpY_remove (fun r' v' => r' = r ∧ i_Rel (k + 5) u' v') v v1) u v1) I ?_
  intro pr i o b mv kn ms kd hd ps ng lI lO lA lT th fo be R
  unfold wpX_remove
  dsimp only
  by_cases h1 : v1 < 0
  · exact br_t h1 (br_t rfl (br_t h1 ⟨rfl, qi_in R⟩))
  obtain ⟨r, hr31, rfl⟩ := nI_of h1
  by_cases h2 : r < 10
  · have hv : vp_in (nI r) 10 := vp_in_nI h2 (by decide)
    have h9 : ¬ (9 : Int32) < nI r := nI_nlt (a := 9) (by omega) (by decide)
    have ec : (nI r).toNatClampNeg = r := nI_clamp (by omega)
    refine qx_has h2 (fun p1 => br_f (by decide) (nm_e ?_)) (fun p0 => br_t rfl ?_)
    · refine br_f h1 (br_f h9 ⟨hv, br_f ?_ ⟨hv, nm_r (e' := upd th r 0) (by rw [ec, qy_narb0]) ⟨rfl, qi_in ⟨R.1, qi_threm R.2.1 h2, ?_, fun z => absurd rfl z⟩⟩⟩⟩)
      · rw [ec, R.2.1 r h2, p1]; decide
      · intro q hq
        apply qs_tf
        intro z
        have := ((qi_rem h2).mp z).1
        rw [R.2.2.1 q hq] at this; cases this
    · refine br_f h1 (br_f h9 ⟨hv, br_t ?_ ⟨rfl, qi_in R⟩⟩)
      rw [ec]; exact (R.2.1 r h2).mpr p0
  · have h10 : (10 : Int32) ≤ nI r := nI_le (a := 10) (by omega) hr31
    have h9 : (9 : Int32) < nI r := nI_lt (a := 9) (by omega) hr31
    exact br_f h1 (br_t h10 (br_t rfl (br_f h1 (br_t h9 ⟨rfl, qi_in R⟩))))
theorem i_vc_rules {k : Nat} {u : SX} {v : SY} (I : i_Rel k u v) (hk : k + 5 ≤ 2560) : wpX_rules (fun r => wpY_rules (fun r' => r' = r ∧ i_Rel (k + 5) u v) v) u := by
  refine qi_el (P := fun u v => wpX_rules (fun r => wpY_rules (fun r' => r' = r ∧ i_Rel (k + 5) u v) v) u) I ?_
  intro pr i o b mv kn ms kd hd ps ng lI lO lA lT th fo be R
  unfold wpX_rules
  dsimp only
  exact qy_rules R.2.1 R.2.2.1 ⟨rfl, qi_in R⟩
theorem i_vc_support {k : Nat} {u : SX} {v : SY} (I : i_Rel k u v) (hk : k + 5 ≤ 2560) (v1 : Int32) : wpX_support (fun r => wpY_support (fun r' => r' = r ∧ i_Rel (k + 5) u v) v v1) u v1 := by
  refine qi_el (P := fun u v => wpX_support (fun r => wpY_support (fun r' => r' = r ∧ i_Rel (k + 5) u v) v v1) u v1) I ?_
  intro pr i o b mv kn ms kd hd ps ng lI lO lA lT th fo be R
  unfold wpX_support
  dsimp only
  rcases qi_set v1 with h | ⟨h1, h2, _⟩
  · refine qi_isSet0 h (br_t rfl ?_)
    unfold wpY_support
    dsimp only
    exact qy_set0 h (br_t rfl ⟨rfl, qi_in R⟩)
  · refine qi_isSet1 h1 h2 (br_f (by decide) (qx_supportOf R.1 ?_))
    exact qy_support R.1 R.2.1 h1 h2 ⟨rfl, qi_in R⟩
theorem i_vc_stable {k : Nat} {u : SX} {v : SY} (I : i_Rel k u v) (hk : k + 5 ≤ 2560) (v1 : Int32) : wpX_stable (fun r u' => wpY_stable (fun r' => r' = r ∧ i_Rel (k + 5) u' v) v v1) u v1 := by
  refine qi_el (P := fun u v => wpX_stable (fun r u' => wpY_stable (fun r' => r' = r ∧ i_Rel (k + 5) u' v) v v1) u v1) I ?_
  intro pr i o b mv kn ms kd hd ps ng lI lO lA lT th fo be R
  unfold wpX_stable
  dsimp only
  rcases qi_set v1 with h | ⟨h1, h2, m, hm, e⟩
  · exact qi_isSet0 h (br_t rfl (qy_stableN R.2.1 h ⟨rfl, qi_in R⟩))
  · subst e
    refine qi_isSet1 h1 h2 (br_f (by decide) (qi_srch R (fun i o b mv kn ms lI lO lA lT R' hM => ?_)))
    by_cases hS : qs_Stb pr kd hd ps ng (nI m)
    · exact qx_m1 hM hm hS ⟨rfl, qy_st1 R.1 R.2.1 hm hS ⟨rfl, qi_in R'⟩⟩
    · exact qx_m0 hM hm hS ⟨rfl, qy_st0 R.1 R.2.1 hm hS ⟨rfl, qi_in R'⟩⟩
theorem i_vc_models {k : Nat} {u : SX} {v : SY} (I : i_Rel k u v) (hk : k + 5 ≤ 2560) : wpX_models (fun r u' => wpY_models (fun r' => r' = r ∧ i_Rel (k + 5) u' v) v) u := by
  refine qi_el (P := fun u v => wpX_models (fun r u' => wpY_models (fun r' => r' = r ∧ i_Rel (k + 5) u' v) v) u) I ?_
  intro pr i o b mv kn ms kd hd ps ng lI lO lA lT th fo be R
  unfold wpX_models
  dsimp only
  refine qi_srch R (fun i o b mv kn ms lI lO lA lT R' hM => ?_)
  obtain ⟨r, hX, hY⟩ := ql_models (i := i) (o := o) (b := b) (mv := mv) (kn := kn) (lI := lI) (lO := lO) (lA := lA) (lT := lT) (fo := fo) (be := be) R.1 R.2.1 hM 64 0 rfl 0
  exact ⟨65, hX _ (Exists.intro 65 (hY _ ⟨rfl, qi_in R'⟩))⟩
theorem i_vc_model {k : Nat} {u : SX} {v : SY} (I : i_Rel k u v) (hk : k + 5 ≤ 2560) (v1 : Int32) : wpX_model (fun r u' => wpY_model (fun r' => r' = r ∧ i_Rel (k + 5) u' v) v v1) u v1 := by
  refine qi_el (P := fun u v => wpX_model (fun r u' => wpY_model (fun r' => r' = r ∧ i_Rel (k + 5) u' v) v v1) u v1) I ?_
  intro pr i o b mv kn ms kd hd ps ng lI lO lA lT th fo be R
  unfold wpX_model
  dsimp only
  refine qi_srch R (fun i o b mv kn ms lI lO lA lT R' hM => ?_)
  obtain ⟨r, hX, hY⟩ := ql_model (k := v1) (i := i) (o := o) (b := b) (mv := mv) (kn := kn) (lI := lI) (lO := lO) (lA := lA) (lT := lT) (fo := fo) (be := be) R.1 R.2.1 hM 64 0 rfl 0
  exact ⟨65, hX _ (Exists.intro 65 (hY _ ⟨rfl, qi_in R'⟩))⟩
theorem i_vc_brave {k : Nat} {u : SX} {v : SY} (I : i_Rel k u v) (hk : k + 5 ≤ 2560) : wpX_brave (fun r u' => wpY_brave (fun r' => r' = r ∧ i_Rel (k + 5) u' v) v) u := by
  refine qi_el (P := fun u v => wpX_brave (fun r u' => wpY_brave (fun r' => r' = r ∧ i_Rel (k + 5) u' v) v) u) I ?_
  intro pr i o b mv kn ms kd hd ps ng lI lO lA lT th fo be R
  unfold wpX_brave
  dsimp only
  refine qi_srch R (fun i o b mv kn ms lI lO lA lT R' hM => ?_)
  obtain ⟨r, hX, hY⟩ := ql_brave (i := i) (o := o) (b := b) (mv := mv) (kn := kn) (lI := lI) (lO := lO) (lA := lA) (lT := lT) (fo := fo) (be := be) R.1 R.2.1 hM 64 0 rfl 0
  exact ⟨65, hX _ (Exists.intro 65 (hY _ ⟨rfl, qi_in R'⟩))⟩
theorem i_vc_cautious {k : Nat} {u : SX} {v : SY} (I : i_Rel k u v) (hk : k + 5 ≤ 2560) : wpX_cautious (fun r u' => wpY_cautious (fun r' => r' = r ∧ i_Rel (k + 5) u' v) v) u := by
  refine qi_el (P := fun u v => wpX_cautious (fun r u' => wpY_cautious (fun r' => r' = r ∧ i_Rel (k + 5) u' v) v) u) I ?_
  intro pr i o b mv kn ms kd hd ps ng lI lO lA lT th fo be R
  unfold wpX_cautious
  dsimp only
  refine qi_srch R (fun i o b mv kn ms lI lO lA lT R' hM => ?_)
  obtain ⟨r, hX, hY⟩ := ql_cautious (i := i) (o := o) (b := b) (mv := mv) (kn := kn) (lI := lI) (lO := lO) (lA := lA) (lT := lT) (fo := fo) (be := be) R.1 R.2.1 hM 64 0 rfl 63 qs_sm63
  exact ⟨65, hX _ (Exists.intro 65 (hY _ ⟨rfl, qi_in R'⟩))⟩
theorem i_vc_find {k : Nat} {u : SX} {v : SY} (I : i_Rel k u v) (hk : k + 5 ≤ 2560) (v1 : Int32) (v2 : Int32) : wpX_find (fun r u' => wpY_find (fun r' => r' = r ∧ i_Rel (k + 5) u' v) v v1 v2) u v1 v2 := by
  refine qi_el (P := fun u v => wpX_find (fun r u' => wpY_find (fun r' => r' = r ∧ i_Rel (k + 5) u' v) v v1 v2) u v1 v2) I ?_
  intro pr i o b mv kn ms kd hd ps ng lI lO lA lT th fo be R
  unfold wpX_find
  dsimp only
  have h64 : ¬ (64 : Int32) ≤ 0 := by decide
  rcases qi_set v1 with h | ⟨h1, h2, _⟩
  · exact qi_isSet0 h (br_t rfl (Exists.intro 1 (br_f h64 (qy_set0 h (br_t rfl ⟨rfl, qi_in R⟩)))))
  rcases qi_set v2 with g | ⟨g1, g2, _⟩
  · exact qi_isSet1 h1 h2 (br_f (by decide) (qi_isSet0 g (br_t rfl (Exists.intro 1 (br_f h64 (qy_set1 h1 h2 (br_f (by decide) (qy_set0 g (br_t rfl ⟨rfl, qi_in R⟩)))))))))
  refine qi_isSet1 h1 h2 (br_f (by decide) (qi_isSet1 g1 g2 (br_f (by decide) (qi_srch R (fun i o b mv kn ms lI lO lA lT R' hM => ?_)))))
  obtain ⟨r, hX, hY⟩ := ql_find (p := v1) (q := v2) (i := i) (o := o) (b := b) (mv := mv) (kn := kn) (lI := lI) (lO := lO) (lA := lA) (lT := lT) (fo := fo) (be := be) R.1 R.2.1 hM h1 h2 g1 g2 64 0 rfl
  exact ⟨65, hX _ (Exists.intro 65 (hY _ ⟨rfl, qi_in R'⟩))⟩
theorem i_vc_fewest {k : Nat} {u : SX} {v : SY} (I : i_Rel k u v) (hk : k + 5 ≤ 2560) : wpX_fewest (fun r u' => wpY_fewest (fun r' => r' = r ∧ i_Rel (k + 5) u' v) v) u := by
  refine qi_el (P := fun u v => wpX_fewest (fun r u' => wpY_fewest (fun r' => r' = r ∧ i_Rel (k + 5) u' v) v) u) I ?_
  intro pr i o b mv kn ms kd hd ps ng lI lO lA lT th fo be R
  unfold wpX_fewest
  dsimp only
  refine qi_srch R (fun i o b mv kn ms lI lO lA lT R' hM => ?_)
  obtain ⟨r, hX, hY⟩ := ql_fewest (i := i) (o := o) (b := b) (mv := mv) (kn := kn) (lI := lI) (lO := lO) (lA := lA) (lT := lT) (fo := fo) (be := be) R.1 R.2.1 hM 64 0 rfl (-1)
  exact ⟨65, hX _ (Exists.intro 65 (hY _ ⟨rfl, qi_in R'⟩))⟩
theorem i_vc_maximal {k : Nat} {u : SX} {v : SY} (I : i_Rel k u v) (hk : k + 5 ≤ 2560) : wpX_maximal (fun r u' => wpY_maximal (fun r' v' => r' = r ∧ i_Rel (k + 5) u' v') v) u := by
  refine qi_el (P := fun u v => wpX_maximal (fun r u' => wpY_maximal (fun r' v' => r' = r ∧ i_Rel (k + 5) u' v') v) u) I ?_
  intro pr i o b mv kn ms kd hd ps ng lI lO lA lT th fo be R
  unfold wpX_maximal
  dsimp only
  refine qi_srch R (fun i o b mv kn ms lI lO lA lT R' hM => ?_)
  obtain ⟨r, hX, hY⟩ := ql_maximal (i := i) (o := o) (b := b) (mv := mv) (kn := kn) (lI := lI) (lO := lO) (lA := lA) (lT := lT) (th := th) (be := be) hM 64 0 rfl 0
  exact ⟨65, hX _ (qy_maximal R.1 R.2.1 (fun fo hF => ⟨65, hY fo hF _ ⟨rfl, qi_in R'⟩⟩))⟩
theorem i_vc_matters {k : Nat} {u : SX} {v : SY} (I : i_Rel k u v) (hk : k + 5 ≤ 2560) (v1 : Int32) : wpX_matters (fun r u' => wpY_matters (fun r' v' => r' = r ∧ i_Rel (k + 5) u' v') v v1) u v1 := by
  refine qi_el (P := fun u v => wpX_matters (fun r u' => wpY_matters (fun r' v' => r' = r ∧ i_Rel (k + 5) u' v') v v1) u v1) I ?_
  intro pr i o b mv kn ms kd hd ps ng lI lO lA lT th fo be R
  unfold wpX_matters
  dsimp only
  by_cases h1 : v1 < 0
  · exact br_t h1 (br_t rfl (br_t h1 ⟨rfl, qi_in R⟩))
  obtain ⟨r, hr31, rfl⟩ := nI_of h1
  by_cases h2 : r < 10
  · have hv : vp_in (nI r) 10 := vp_in_nI h2 (by decide)
    have h9 : ¬ (9 : Int32) < nI r := nI_nlt (a := 9) (by omega) (by decide)
    have ec : (nI r).toNatClampNeg = r := nI_clamp (by omega)
    refine qx_has h2 (fun p1 => br_f (by decide) ?_) (fun p0 => br_t rfl ?_)
    · refine qi_srch R (fun i1 o1 b1 mv1 kn1 ms1 lI1 lO1 lA1 lT1 R1 hM1 => nm_e ?_)
      refine qx_search (kn := 0) R.1 (fun z => absurd rfl z) (fun i2 o2 b2 mv2 kn2 ms2 lI2 lO2 lA2 lT2 hk2 hM2 => nm_r (qi_back h2 p1) ?_)
      have hR : ∀ i o b mv ms lI lO lA lT fo be, i_Rel (k + 5) (pr, i, o, b, mv, 0, ms, kd, hd, ps, ng, lI, lO, lA, lT) (upd (upd th r 0) r 1, kd, hd, ps, ng, fo, be) := fun i o b mv ms lI lO lA lT fo be => by
        have T2 := qi_thadd (qi_threm R.2.1 h2) h2
        rw [qi_back h2 p1] at T2
        exact qi_in ⟨R.1, T2, R.2.2.1, fun z => absurd rfl z⟩
      refine br_c (fun e => ?_) (fun e => ?_)
      · refine qy_matters R.1 R.2.1 h2 p1 (fun hx => ?_) (fun _ fo be => ⟨rfl, hR _ _ _ _ _ _ _ _ _ _ _⟩)
        obtain ⟨q, hq, hne⟩ := hx
        exact absurd ((qi_mseq hM1 hM2).mp e q hq) hne
      · refine qy_matters R.1 R.2.1 h2 p1 (fun _ fo be => ⟨rfl, hR _ _ _ _ _ _ _ _ _ _ _⟩) (fun hx => ?_)
        exact absurd ((qi_mseq hM1 hM2).mpr hx) e
    · refine br_f h1 (br_f h9 ⟨hv, br_t ?_ ⟨rfl, qi_in R⟩⟩)
      rw [ec]; exact (R.2.1 r h2).mpr p0
  · have h10 : (10 : Int32) ≤ nI r := nI_le (a := 10) (by omega) hr31
    have h9 : (9 : Int32) < nI r := nI_lt (a := 9) (by omega) hr31
    exact br_f h1 (br_t h10 (br_t rfl (br_f h1 (br_t h9 ⟨rfl, qi_in R⟩))))
end
