section
/-! longs as naturals (a family of the kit's laws/BITS.to-paste) -/
theorem wb_tb (n : Nat) : (lN n).toBitVec = BitVec.ofNat 64 n := rfl
theorem wb_inj {a b : Int64} (h : a.toBitVec = b.toBitVec) : a = b := Int64.toBitVec_inj.mp h
theorem wb_tn {n : Nat} (h : n < 2 ^ 64) : (lN n).toBitVec.toNat = n := by rw [wb_tb, BitVec.toNat_ofNat, Nat.mod_eq_of_lt h]
theorem wb_of (x : Int64) : ∃ n, n < 2 ^ 64 ∧ x = lN n := ⟨x.toBitVec.toNat, x.toBitVec.isLt, wb_inj (by rw [wb_tb]; simp)⟩
theorem wb_c : ∀ k, k < 64 → ((nI k).toInt64 &&& 63) = lN k := by decide +kernel
theorem wb_cu : ∀ k, k < 64 → ((nI k).toInt64.toUInt64 &&& Int64.toUInt64 63) = UInt64.ofNat k := by decide +kernel
theorem wb_sm : ∀ k, k < 64 → (BitVec.ofNat 64 k).smod 64 = BitVec.ofNat 64 k := by decide +kernel
theorem wb_lt2 {a b : Nat} (h : a < b) : 2 ^ a < 2 ^ b := Nat.pow_lt_pow_right (by decide) h
theorem wb_shr {n k : Nat} (hn : n < 2 ^ 64) (hk : k < 64) : ((lN n).toUInt64 >>> ((nI k).toInt64.toUInt64 &&& Int64.toUInt64 63)).toInt64 = lN (n / 2 ^ k) := by
  rw [wb_cu k hk]
  apply wb_inj
  apply BitVec.eq_of_toNat_eq
  show ((lN n).toUInt64 >>> UInt64.ofNat k).toNat = (BitVec.ofNat 64 _).toNat
  have h1 : (UInt64.ofNat k).toNat = k := by
    show (BitVec.ofNat 64 k).toNat = k
    rw [BitVec.toNat_ofNat, Nat.mod_eq_of_lt (by omega)]
  have h2 : (lN n).toUInt64.toNat = n := wb_tn hn
  rw [UInt64.toNat_shiftRight, h1, h2, Nat.mod_eq_of_lt hk, Nat.shiftRight_eq_div_pow, BitVec.toNat_ofNat, Nat.mod_eq_of_lt (Nat.lt_of_le_of_lt (Nat.div_le_self _ _) hn)]
theorem wb_shl (n : Nat) {k : Nat} (hk : k < 64) : lN n <<< ((nI k).toInt64 &&& 63) = lN (n * 2 ^ k) := by
  rw [wb_c k hk]
  apply wb_inj
  rw [Int64.toBitVec_shiftLeft, wb_tb, wb_tb, wb_tb, wb_sm k hk]
  apply BitVec.eq_of_toNat_eq
  rw [BitVec.shiftLeft_eq', BitVec.toNat_shiftLeft, BitVec.toNat_ofNat, BitVec.toNat_ofNat, BitVec.toNat_ofNat, Nat.mod_eq_of_lt (show k < 2 ^ 64 by omega), Nat.shiftLeft_eq, Nat.mul_mod, Nat.mod_mod, ← Nat.mul_mod]
theorem wb_and {a b : Nat} (ha : a < 2 ^ 64) (hb : b < 2 ^ 64) : lN a &&& lN b = lN (a &&& b) := by
  apply wb_inj
  rw [Int64.toBitVec_and, wb_tb, wb_tb, wb_tb]
  apply BitVec.eq_of_toNat_eq
  rw [BitVec.toNat_and, BitVec.toNat_ofNat, BitVec.toNat_ofNat, BitVec.toNat_ofNat, Nat.mod_eq_of_lt ha, Nat.mod_eq_of_lt hb, Nat.mod_eq_of_lt (Nat.and_lt_two_pow _ hb)]
theorem wb_or {a b : Nat} (ha : a < 2 ^ 64) (hb : b < 2 ^ 64) : lN a ||| lN b = lN (a ||| b) := by
  apply wb_inj
  rw [Int64.toBitVec_or, wb_tb, wb_tb, wb_tb]
  apply BitVec.eq_of_toNat_eq
  rw [BitVec.toNat_or, BitVec.toNat_ofNat, BitVec.toNat_ofNat, BitVec.toNat_ofNat, Nat.mod_eq_of_lt ha, Nat.mod_eq_of_lt hb, Nat.mod_eq_of_lt (Nat.or_lt_two_pow ha hb)]
theorem wb_mask {n k : Nat} (hn : n < 2 ^ 64) (hk : k < 64) : lN n &&& lN (2 ^ k - 1) = lN (n % 2 ^ k) := by
  rw [wb_and hn (by have := wb_lt2 hk; omega), Nat.and_two_pow_sub_one_eq_mod]
theorem wb_a1 {n : Nat} (hn : n < 2 ^ 64) : lN n &&& 1 = lN (n % 2) := wb_mask (k := 1) hn (by decide)
theorem wb_bit {n k : Nat} (hn : n < 2 ^ 64) (hk : k < 64) : ((lN n).toUInt64 >>> ((nI k).toInt64.toUInt64 &&& Int64.toUInt64 63)).toInt64 &&& 1 = lN (n / 2 ^ k % 2) := by
  rw [wb_shr hn hk, wb_a1 (Nat.lt_of_le_of_lt (Nat.div_le_self _ _) hn)]
/-! small ints -/
theorem pt_b8 : ∀ n, n < 128 → (nI n).toInt8.toInt32 = nI n := by decide +kernel
theorem pt_vb {n : Nat} (h : n < 128) : vp_nar .byte (nI n) = nI n := (vp_nar_byte _).trans (pt_b8 n h)
theorem pt_m1t : (-1 : Int32).toInt = -1 := by decide
theorem pt_nm1 {n : Nat} (h : n < 2 ^ 31) : ¬ nI n = -1 := by
  intro q
  have a := nI_toInt h
  rw [q, pt_m1t] at a
  omega
/-! counting -/
def pt_cnt (P : Nat → Bool) : Nat → Nat
  | 0 => 0
  | m + 1 => pt_cnt P m + (if P m = true then 1 else 0)
theorem pt_cnt_t {P : Nat → Bool} {m : Nat} (h : P m = true) : pt_cnt P (m + 1) = pt_cnt P m + 1 := by
  show pt_cnt P m + (if P m = true then 1 else 0) = _
  rw [if_pos h]
theorem pt_cnt_f {P : Nat → Bool} {m : Nat} (h : P m = false) : pt_cnt P (m + 1) = pt_cnt P m := by
  show pt_cnt P m + (if P m = true then 1 else 0) = _
  rw [if_neg (by rw [h]; exact Bool.false_ne_true), Nat.add_zero]
theorem pt_cnt_le (P : Nat → Bool) (m : Nat) : pt_cnt P m ≤ m := by
  induction m with
  | zero => exact Nat.le_refl 0
  | succ m ih =>
    cases h : P m with
    | true => rw [pt_cnt_t h]; omega
    | false => rw [pt_cnt_f h]; omega
theorem pt_cnt_mono {P : Nat → Bool} {a b : Nat} (h : a ≤ b) : pt_cnt P a ≤ pt_cnt P b := by
  induction b with
  | zero => rw [show a = 0 by omega]; exact Nat.le_refl _
  | succ b ih =>
    by_cases e : a = b + 1
    · rw [e]; exact Nat.le_refl _
    · have := ih (by omega)
      cases h : P b with
      | true => rw [pt_cnt_t h]; omega
      | false => rw [pt_cnt_f h]; omega
theorem pt_cnt_skip {P : Nat → Bool} {a b : Nat} (h : a ≤ b) (hf : ∀ j, a ≤ j → j < b → P j = false) : pt_cnt P b = pt_cnt P a := by
  induction b with
  | zero => rw [show a = 0 by omega]
  | succ b ih =>
    by_cases e : a = b + 1
    · rw [e]
    · rw [pt_cnt_f (hf b (by omega) (by omega))]
      exact ih (by omega) (fun j h1 h2 => hf j h1 (by omega))
theorem pt_cnt_congr {P Q : Nat → Bool} {m : Nat} (h : ∀ j, j < m → P j = Q j) : pt_cnt P m = pt_cnt Q m := by
  induction m with
  | zero => rfl
  | succ m ih =>
    show pt_cnt P m + (if P m = true then 1 else 0) = pt_cnt Q m + (if Q m = true then 1 else 0)
    rw [ih (fun j hj => h j (by omega)), h m (by omega)]
/-- some place below n -/
def pt_ex (f : Nat → Bool) : Nat → Bool
  | 0 => false
  | n + 1 => pt_ex f n || f n
theorem pt_ex_iff (f : Nat → Bool) (n : Nat) : pt_ex f n = true ↔ ∃ k, k < n ∧ f k = true := by
  induction n with
  | zero => exact ⟨fun h => absurd h Bool.false_ne_true, fun ⟨k, h, _⟩ => absurd h (Nat.not_lt_zero k)⟩
  | succ n ih =>
    show (pt_ex f n || f n) = true ↔ _
    rw [Bool.or_eq_true, ih]
    constructor
    · rintro (⟨k, hk, h⟩ | h)
      · exact ⟨k, by omega, h⟩
      · exact ⟨n, by omega, h⟩
    · rintro ⟨k, hk, h⟩
      by_cases e : k = n
      · subst e; exact Or.inr h
      · exact Or.inl ⟨k, by omega, h⟩
def pt_i (b : Bool) : Int32 := cond b 1 0
/-- some place below t that is an A, with a B -/
def pt_D (A : Nat → Prop) (B : Nat → Nat → Prop) (t m : Nat) : Prop := ∃ j, j < t ∧ A j ∧ B j m
theorem pt_D0 {A : Nat → Prop} {B : Nat → Nat → Prop} {m : Nat} : ¬ pt_D A B 0 m := fun ⟨j, h, _⟩ => absurd h (Nat.not_lt_zero j)
theorem pt_Dskip {A : Nat → Prop} {B : Nat → Nat → Prop} {t n m : Nat} (h : t ≤ n) (hf : ∀ j, t ≤ j → j < n → ¬ A j) : pt_D A B n m ↔ pt_D A B t m :=
  ⟨fun ⟨j, hj, ha, hb⟩ => ⟨j, Nat.lt_of_not_le (fun g => hf j g hj ha), ha, hb⟩, fun ⟨j, hj, hab⟩ => ⟨j, Nat.lt_of_lt_of_le hj h, hab⟩⟩
theorem pt_Dadd {A : Nat → Prop} {B : Nat → Nat → Prop} {n m : Nat} (h : A n) : pt_D A B (n + 1) m ↔ pt_D A B n m ∨ B n m := by
  constructor
  · rintro ⟨j, hj, ha, hb⟩
    by_cases e : j = n
    · subst e; exact Or.inr hb
    · exact Or.inl ⟨j, by omega, ha, hb⟩
  · rintro (⟨j, hj, hab⟩ | hb)
    · exact ⟨j, by omega, hab⟩
    · exact ⟨n, by omega, h, hb⟩
theorem pt_Dnot {A : Nat → Prop} {B : Nat → Nat → Prop} {n m : Nat} (h : ¬ A n) : pt_D A B (n + 1) m ↔ pt_D A B n m :=
  pt_Dskip (Nat.le_succ n) (fun j h1 h2 => by rw [show j = n by omega]; exact h)
theorem pt_fst (A : Nat → Prop) {t N : Nat} (h : t ≤ N) : ∃ e, t ≤ e ∧ e ≤ N ∧ (∀ j, t ≤ j → j < e → ¬ A j) ∧ (e < N → A e) := by
  by_cases q : ∃ k, t ≤ k ∧ k < N ∧ A k
  · obtain ⟨k, ⟨hk1, hk2, hk3⟩, hm⟩ := pk_least (fun k => t ≤ k ∧ k < N ∧ A k) q
    exact ⟨k, hk1, by omega, fun j h1 h2 h3 => hm j h2 ⟨h1, by omega, h3⟩, fun _ => hk3⟩
  · exact ⟨N, h, Nat.le_refl N, fun j h1 h2 h3 => q ⟨j, h1, h2, h3⟩, fun z => absurd z (Nat.lt_irrefl N)⟩
/-! the set of numbers in the longs -/
def pt_bit (F : Nat → Int64) (m : Nat) : Bool := (F (m / 64)).toBitVec.toNat.testBit (m % 64)
theorem pt_ix {m : Nat} (hm : m < 8000) : nI m >>> ((6 : Int32) &&& 31) = nI (m / 64) := pk_shrN (by omega) _ 6 (by decide)
theorem pt_a63 {m : Nat} (hm : m < 8000) : nI m &&& 63 = nI (m % 64) := pk_andN (by omega) 6 (by decide)
theorem pt_rd {F : Nat → Int64} {m : Nat} (hm : m < 8000) : ((F (nI m >>> ((6 : Int32) &&& 31)).toNatClampNeg).toUInt64 >>> ((nI m &&& 63).toInt64.toUInt64 &&& Int64.toUInt64 63)).toInt64 &&& 1 = lN (if pt_bit F m = true then 1 else 0) := by
  rw [pt_ix hm, nI_clamp (show m / 64 < 2 ^ 31 by omega), pt_a63 hm]
  obtain ⟨n, hn, e⟩ := wb_of (F (m / 64))
  have hb : pt_bit F m = n.testBit (m % 64) := by unfold pt_bit; rw [e, wb_tn hn]
  rw [e, wb_bit hn (Nat.mod_lt _ (by decide)), hb, Nat.testBit_eq_decide_div_mod_eq]
  rcases Nat.mod_two_eq_zero_or_one (n / 2 ^ (m % 64)) with h | h <;> rw [h] <;> rfl
theorem pt_wr {F : Nat → Int64} {m : Nat} (hm : m < 8000) (j : Nat) : pt_bit (vp_updL F (m / 64) (F (m / 64) ||| ((1 : Int64) <<< ((nI (m % 64)).toInt64 &&& 63)))) j = (pt_bit F j || decide (j = m)) := by
  unfold pt_bit
  by_cases h : j / 64 = m / 64
  · rw [h, pk_uLs]
    obtain ⟨n, hn, e⟩ := wb_of (F (m / 64))
    have hk : m % 64 < 64 := Nat.mod_lt _ (by decide)
    have h1 : (1 : Int64) <<< ((nI (m % 64)).toInt64 &&& 63) = lN (2 ^ (m % 64)) := by
      have t := wb_shl 1 hk
      rw [Nat.one_mul] at t
      exact t
    have h2 : 2 ^ (m % 64) < 2 ^ 64 := wb_lt2 hk
    rw [h1, e, wb_or hn h2, wb_tn (Nat.or_lt_two_pow hn h2), wb_tn hn, Nat.testBit_or, Nat.testBit_two_pow]
    have h3 : decide (m % 64 = j % 64) = decide (j = m) := decide_eq_decide.mpr ⟨fun q => by omega, fun q => by rw [q]⟩
    rw [h3]
  · rw [pk_uLn h]
    have h3 : ¬ j = m := fun q => h (by rw [q])
    rw [decide_eq_false h3, Bool.or_false]
/-- the numbers below 8000 that the longs hold are those of Q -/
def pt_B (F : Nat → Int64) (Q : Nat → Prop) : Prop := ∀ m, m < 8000 → (pt_bit F m = true ↔ Q m)
theorem pt_B_iff {F : Nat → Int64} {Q R : Nat → Prop} (h : pt_B F Q) (e : ∀ m, Q m ↔ R m) : pt_B F R := fun m hm => (h m hm).trans (e m)
theorem pt_B_add {F G : Nat → Int64} {Q : Nat → Prop} {M : Nat} (h : pt_B F Q) (hg : ∀ j, pt_bit G j = (pt_bit F j || decide (j = M))) : pt_B G (fun m => Q m ∨ m = M) := by
  intro m hm
  rw [hg m, Bool.or_eq_true, decide_eq_true_iff, h m hm]
theorem pt_B_0 {F : Nat → Int64} (h : ∀ j, j < 125 → F j = 0) : pt_B F (fun _ => False) := by
  intro m hm
  unfold pt_bit
  rw [h (m / 64) (by omega)]
  show Nat.testBit 0 (m % 64) = true ↔ False
  rw [Nat.zero_testBit]
  exact ⟨fun z => absurd z Bool.false_ne_true, False.elim⟩
end
section
section
variable {N : Nat} {nc pc tc cp wh vs ce : Int32} {a1 a2 a3 a4 a5 a6 a7 a8 a9 a10 a11 a12 a13 a14 a15 : Nat → Int32} {a16 : Nat → Int64} {sy lf rt : Nat → Nat}
/-- the first N nodes' symbols and arguments -/
def pt_K (N : Nat) (sy lf rt : Nat → Nat) (a1 a2 a3 : Nat → Int32) : Prop := ∀ n, n < N → a1 n = nI (sy n) ∧ a2 n = nI (lf n) ∧ a3 n = nI (rt n) ∧ sy n < 22 ∧ lf n < 20 ∧ rt n < 20
def pt_cong (a4 : Nat → Int32) (sy lf rt : Nat → Nat) (m n : Nat) : Prop := sy m = sy n ∧ sy m ≠ 0 ∧ a4 (lf m) = a4 (lf n) ∧ (sy m = 20 ∨ a4 (rt m) = a4 (rt n))
theorem pt_congr {post : Int32 → Prop} (K : pt_K N sy lf rt a1 a2 a3) {m n : Nat} (hm : m < N) (hn : n < N) (hN : N ≤ 20) (H0 : ¬ pt_cong a4 sy lf rt m n → post 0) (H1 : pt_cong a4 sy lf rt m n → post 1) : wpX_congruent post (nc, pc, tc, cp, wh, vs, ce, a1, a2, a3, a4, a5, a6, a7, a8, a9, a10, a11, a12, a13, a14, a15, a16) (nI m) (nI n) := by
  obtain ⟨m1, m2, m3, m4, m5, m6⟩ := K m hm
  obtain ⟨n1, n2, n3, n4, n5, n6⟩ := K n hn
  have im : vp_in (nI m) 20 := pk_in m 20 (by omega)
  have iN : vp_in (nI n) 20 := pk_in n 20 (by omega)
  have cm : (nI m).toNatClampNeg = m := nI_clamp (by omega)
  have cn : (nI n).toNatClampNeg = n := nI_clamp (by omega)
  have d1 : a1 (nI m).toNatClampNeg = nI (sy m) := by rw [cm]; exact m1
  have d2 : a1 (nI n).toNatClampNeg = nI (sy n) := by rw [cn]; exact n1
  have l1 : a2 (nI m).toNatClampNeg = nI (lf m) := by rw [cm]; exact m2
  have l2 : a2 (nI n).toNatClampNeg = nI (lf n) := by rw [cn]; exact n2
  have r1 : a3 (nI m).toNatClampNeg = nI (rt m) := by rw [cm]; exact m3
  have r2 : a3 (nI n).toNatClampNeg = nI (rt n) := by rw [cn]; exact n3
  have el : (a4 (a2 (nI m).toNatClampNeg).toNatClampNeg = a4 (a2 (nI n).toNatClampNeg).toNatClampNeg) ↔ a4 (lf m) = a4 (lf n) := by
    rw [l1, l2, nI_clamp (show lf m < 2 ^ 31 by omega), nI_clamp (show lf n < 2 ^ 31 by omega)]
  have er : (a4 (a3 (nI m).toNatClampNeg).toNatClampNeg = a4 (a3 (nI n).toNatClampNeg).toNatClampNeg) ↔ a4 (rt m) = a4 (rt n) := by
    rw [r1, r2, nI_clamp (show rt m < 2 ^ 31 by omega), nI_clamp (show rt n < 2 ^ 31 by omega)]
  exact ⟨im, iN, pk_eq (sy m) (sy n) (fun e => ⟨im, pk_eq (sy m) 0 (fun z => H0 (fun q => q.2.1 z)) (fun z => ⟨im, pk_in (lf m) 20 m5 l1, iN, pk_in (lf n) 20 n5 l2, ek_if el (fun g => ⟨im, pk_eq (sy m) 20 (fun w => H1 ⟨e, z, g, Or.inl w⟩) (fun w => ⟨im, pk_in (rt m) 20 m6 r1, iN, pk_in (rt n) 20 n6 r2, ek_if er (fun g2 => H1 ⟨e, z, g, Or.inr g2⟩) (fun g2 => H0 (fun q => q.2.2.2.elim w g2))⟩) d1⟩) (fun g => H0 (fun q => g q.2.2.1))⟩) d1⟩) (fun e => H0 (fun q => e q.1)) d1 d2⟩
theorem pt_122 {post : Int32 → St2 → Prop} (K : pt_K (N + 1) sy lf rt a1 a2 a3) (hN : N < 20) (hb : ∀ m, m < N → ∃ l, l < 20 ∧ a4 m = nI l) (H0 : (∀ m, m < N → ¬ pt_cong a4 sy lf rt m N) → post (nI N) (nI (N + 1), pc, tc, cp, wh, vs, ce, a1, a2, a3, a4, a5, a6, a7, a8, a9, a10, a11, a12, a13, a14, a15, a16)) (H1 : ∀ m, m < N → pt_cong a4 sy lf rt m N → post (nI N) (nI (N + 1), pc, tc, cp, wh, vs, ce, a1, a2, a3, upd a4 N (a4 m), a5, a6, a7, a8, a9, a10, a11, a12, a13, a14, a15, a16)) : ∃ n, wX_node_122 post (nI N) (nI (N + 1)) pc tc cp wh vs ce a1 a2 a3 a4 a5 a6 a7 a8 a9 a10 a11 a12 a13 a14 a15 a16 n 0 :=
  pk_loop (σ := Unit) (fun n i _ => wX_node_122 post (nI N) (nI (N + 1)) pc tc cp wh vs ce a1 a2 a3 a4 a5 a6 a7 a8 a9 a10 a11 a12 a13 a14 a15 a16 n (nI i)) (fun i _ => ∀ m, m < i → ¬ pt_cong a4 sy lf rt m N) N 0 () (Nat.zero_le _) (fun m h => absurd h (Nat.not_lt_zero m))
    (fun n _ h => pk_le N N (fun _ => H0 h) (fun z => absurd z (by omega)))
    (fun n i _ hi h hw => by
      have he : upd a4 (nI N).toNatClampNeg (vp_nar .byte (a4 (nI i).toNatClampNeg)) = upd a4 N (a4 i) := by
        obtain ⟨l, hl, e⟩ := hb i hi
        rw [nI_clamp (show N < 2 ^ 31 by omega), nI_clamp (show i < 2 ^ 31 by omega), e, pt_vb (by omega)]
      exact pk_le N i (fun z => absurd z (by omega)) (fun _ => pt_congr K (by omega) (by omega) (by omega) (fun g => br_t rfl (nm_r (nI_1 i) (hw () (lt_s h g)))) (fun g => br_f (by decide) ⟨pk_in i 20 (by omega), pk_in N 20 hN, nm_r he (H1 i hi g)⟩)))
def pt_set (f : Nat → Nat) (k v : Nat) : Nat → Nat := fun j => if j = k then v else f j
theorem pt_set_s {f : Nat → Nat} {k v : Nat} : pt_set f k v k = v := if_pos rfl
theorem pt_set_n {f : Nat → Nat} {k v j : Nat} (h : j ≠ k) : pt_set f k v j = f j := if_neg h
theorem pt_K_add {s x y : Nat} (K : pt_K N sy lf rt a1 a2 a3) (hs : s < 22) (hx : x < 20) (hy : y < 20) : pt_K (N + 1) (pt_set sy N s) (pt_set lf N x) (pt_set rt N y) (upd a1 N (nI s)) (upd a2 N (nI x)) (upd a3 N (nI y)) := by
  intro n hn
  by_cases e : n = N
  · subst e
    rw [pk_us, pk_us, pk_us, pt_set_s, pt_set_s, pt_set_s]
    exact ⟨rfl, rfl, rfl, hs, hx, hy⟩
  · rw [pk_un e, pk_un e, pk_un e, pt_set_n e, pt_set_n e, pt_set_n e]
    exact K n (by omega)
theorem pt_node {post : Int32 → St2 → Prop} {s x y : Nat} (K : pt_K N sy lf rt a1 a2 a3) (hN : N < 20) (hs : s < 22) (hx : x < 20) (hy : y < 20) (hb : ∀ m, m < N → ∃ l, l < 20 ∧ a4 m = nI l) (hf : ∀ n, n < N → ¬ (sy n = s ∧ lf n = x ∧ rt n = y))
    (H0 : (∀ m, m < N → ¬ pt_cong (upd a4 N (nI N)) (pt_set sy N s) (pt_set lf N x) (pt_set rt N y) m N) → post (nI N) (nI (N + 1), pc, tc, cp, wh, vs, ce, upd a1 N (nI s), upd a2 N (nI x), upd a3 N (nI y), upd a4 N (nI N), a5, a6, a7, a8, a9, a10, a11, a12, a13, a14, a15, a16))
    (H1 : ∀ m, m < N → pt_cong (upd a4 N (nI N)) (pt_set sy N s) (pt_set lf N x) (pt_set rt N y) m N → post (nI N) (nI (N + 1), pc, tc, cp, wh, vs, ce, upd a1 N (nI s), upd a2 N (nI x), upd a3 N (nI y), upd (upd a4 N (nI N)) N (upd a4 N (nI N) m), a5, a6, a7, a8, a9, a10, a11, a12, a13, a14, a15, a16)) :
    wpX_node post (nI N, pc, tc, cp, wh, vs, ce, a1, a2, a3, a4, a5, a6, a7, a8, a9, a10, a11, a12, a13, a14, a15, a16) (nI s) (nI x) (nI y) := by
  have cN : (nI N).toNatClampNeg = N := nI_clamp (by omega)
  have e1 : upd a1 (nI N).toNatClampNeg (nI s).toInt8.toInt32 = upd a1 N (nI s) := by rw [cN, pt_b8 s (by omega)]
  have e2 : upd a2 (nI N).toNatClampNeg (nI x).toInt8.toInt32 = upd a2 N (nI x) := by rw [cN, pt_b8 x (by omega)]
  have e3 : upd a3 (nI N).toNatClampNeg (nI y).toInt8.toInt32 = upd a3 N (nI y) := by rw [cN, pt_b8 y (by omega)]
  have e4 : upd a4 (nI N).toNatClampNeg (nI N).toInt8.toInt32 = upd a4 N (nI N) := by rw [cN, pt_b8 N (by omega)]
  have iN : vp_in (nI N) 20 := pk_in N 20 hN
  have hb' : ∀ m, m < N → ∃ l, l < 20 ∧ upd a4 N (nI N) m = nI l := fun m hm => by
    rw [pk_un (show m ≠ N by omega)]
    exact hb m hm
  have W : ∃ n, wX_node_122 post (nI N) (nI (N + 1)) pc tc cp wh vs ce (upd a1 N (nI s)) (upd a2 N (nI x)) (upd a3 N (nI y)) (upd a4 N (nI N)) a5 a6 a7 a8 a9 a10 a11 a12 a13 a14 a15 a16 n 0 := pt_122 (pt_K_add K hs hx hy) hN hb' H0 H1
  exact pk_loop (σ := Unit) (fun n i _ => wX_node_3 post (nI s) (nI x) (nI y) (nI N) pc tc cp wh vs ce a1 a2 a3 a4 a5 a6 a7 a8 a9 a10 a11 a12 a13 a14 a15 a16 n (nI i)) (fun _ _ => True) N 0 () (Nat.zero_le _) trivial
    (fun n _ _ => pk_le N N (fun _ => pk_lt N 20 (fun _ => nm_r (nI_1 N) ⟨iN, nm_r e1 ⟨iN, nm_r e2 ⟨iN, nm_r e3 ⟨iN, nm_r e4 W⟩⟩⟩⟩) (fun z => absurd z (by omega))) (fun z => absurd z (by omega)))
    (fun n i _ hi _ hw => by
      obtain ⟨k1, k2, k3, k4, k5, k6⟩ := K i hi
      have ci : (nI i).toNatClampNeg = i := nI_clamp (by omega)
      have d1 : a1 (nI i).toNatClampNeg = nI (sy i) := by rw [ci]; exact k1
      have d2 : a2 (nI i).toNatClampNeg = nI (lf i) := by rw [ci]; exact k2
      have d3 : a3 (nI i).toNatClampNeg = nI (rt i) := by rw [ci]; exact k3
      have ii : vp_in (nI i) 20 := pk_in i 20 (by omega)
      exact pk_le N i (fun z => absurd z (by omega)) (fun _ => ⟨ii, pk_eq (sy i) s (fun g1 => ⟨ii, pk_eq (lf i) x (fun g2 => ⟨ii, pk_eq (rt i) y (fun g3 => absurd ⟨g1, g2, g3⟩ (hf i hi)) (fun _ => nm_r (nI_1 i) (hw () trivial)) d3⟩) (fun _ => nm_r (nI_1 i) (hw () trivial)) d2⟩) (fun _ => nm_r (nI_1 i) (hw () trivial)) d1⟩))
theorem pt_isN {post : Int32 → Prop} {x : Nat} (hx : x < N) (hN : N ≤ 20) (H : post 1) : wpX_isNode post (nI N, pc, tc, cp, wh, vs, ce, a1, a2, a3, a4, a5, a6, a7, a8, a9, a10, a11, a12, a13, a14, a15, a16) (nI x) :=
  br_f (nI_pos (by omega)) (br_f (nI_ge hx (by omega)) H)
theorem pt_two {post : Int32 → St2 → Prop} {x y : Nat} (K : pt_K N sy lf rt a1 a2 a3) (hN : N < 20) (hx : x < N) (hy : y < N) (hb : ∀ m, m < N → ∃ l, l < 20 ∧ a4 m = nI l) (hf : ∀ n, n < N → ¬ (sy n = 21 ∧ lf n = x ∧ rt n = y))
    (H : ∀ b4, (∀ j, j < N → b4 j = a4 j) → (b4 N = nI N ∨ ∃ m, m < N ∧ b4 N = a4 m) → post (nI N) (nI (N + 1), pc, tc, cp, wh, vs, ce, upd a1 N (nI 21), upd a2 N (nI x), upd a3 N (nI y), b4, a5, a6, a7, a8, a9, a10, a11, a12, a13, a14, a15, a16)) :
    wpX_two post (nI N, pc, tc, cp, wh, vs, ce, a1, a2, a3, a4, a5, a6, a7, a8, a9, a10, a11, a12, a13, a14, a15, a16) (nI x) (nI y) := by
  unfold wpX_two
  refine pt_isN hx (by omega) (br_f (by decide) (pt_isN hy (by omega) (br_f (by decide) ?_)))
  refine pt_node (s := 21) K hN (by omega) (by omega) (by omega) hb hf (fun _ => ?_) (fun m hm _ => ?_)
  · exact H _ (fun j hj => pk_un (by omega)) (Or.inl pk_us)
  · exact H _ (fun j hj => by rw [pk_un (show j ≠ N by omega), pk_un (show j ≠ N by omega)]) (Or.inr ⟨m, hm, by rw [pk_us, pk_un (show m ≠ N by omega)]⟩)
theorem pt_constant {post : Int32 → St2 → Prop} {k : Nat} (K : pt_K N sy lf rt a1 a2 a3) (hN : N < 20) (hk : k ≤ 5) (hb : ∀ m, m < N → ∃ l, l < 20 ∧ a4 m = nI l) (hf : ∀ n, n < N → ¬ (sy n = 0 ∧ lf n = k ∧ rt n = 0))
    (H : post (nI N) (nI (N + 1), pc, tc, cp, wh, vs, ce, upd a1 N (nI 0), upd a2 N (nI k), upd a3 N (nI 0), upd a4 N (nI N), a5, a6, a7, a8, a9, a10, a11, a12, a13, a14, a15, a16)) :
    wpX_constant post (nI N, pc, tc, cp, wh, vs, ce, a1, a2, a3, a4, a5, a6, a7, a8, a9, a10, a11, a12, a13, a14, a15, a16) (nI k) := by
  unfold wpX_constant
  refine br_f (nI_pos (by omega)) (br_t (nI_le (b := 5) hk (by decide)) ?_)
  refine pt_node (s := 0) (y := 0) K hN (by omega) (by omega) (by omega) hb hf (fun _ => H) (fun m hm g => ?_)
  exact absurd (g.1.trans pt_set_s) g.2.1
theorem pt_one {post : Int32 → St2 → Prop} {x : Nat} (K : pt_K N sy lf rt a1 a2 a3) (hN : N < 20) (hx : x < N) (hb : ∀ m, m < N → ∃ l, l < 20 ∧ a4 m = nI l) (hf : ∀ n, n < N → ¬ (sy n = 20 ∧ lf n = x ∧ rt n = 0))
    (hc : ∀ m, m < N → ¬ pt_cong (upd a4 N (nI N)) (pt_set sy N 20) (pt_set lf N x) (pt_set rt N 0) m N)
    (H : post (nI N) (nI (N + 1), pc, tc, cp, wh, vs, ce, upd a1 N (nI 20), upd a2 N (nI x), upd a3 N (nI 0), upd a4 N (nI N), a5, a6, a7, a8, a9, a10, a11, a12, a13, a14, a15, a16)) :
    wpX_one post (nI N, pc, tc, cp, wh, vs, ce, a1, a2, a3, a4, a5, a6, a7, a8, a9, a10, a11, a12, a13, a14, a15, a16) (nI x) := by
  unfold wpX_one
  refine pt_isN hx (by omega) (br_f (by decide) ?_)
  exact pt_node (s := 20) (y := 0) K hN (by omega) (by omega) (by omega) hb hf (fun _ => H) (fun m hm g => absurd g (hc m hm))
end
end
section
section
variable {N : Nat} {nc pc tc cp wh vs ce : Int32} {a1 a2 a3 a4 a5 a6 a7 a8 a9 a10 a11 a12 a13 a14 a15 : Nat → Int32} {a16 : Nat → Int64} {sy lf rt : Nat → Nat}
theorem pt_cnt4 {P : Nat → Bool} (h0 : P 0 = true) (h1 : P 1 = true) (h2 : P 2 = true) (h3 : P 3 = false) : pt_cnt P 4 = 3 := by
  have e4 : pt_cnt P 4 = pt_cnt P 3 := pt_cnt_f h3
  have e3 : pt_cnt P 3 = pt_cnt P 2 + 1 := pt_cnt_t h2
  have e2 : pt_cnt P 2 = pt_cnt P 1 + 1 := pt_cnt_t h1
  have e1 : pt_cnt P 1 = pt_cnt P 0 + 1 := pt_cnt_t h0
  have e0 : pt_cnt P 0 = 0 := rfl
  omega
theorem pt_classes {post : Int32 → Prop} (hN : N ≤ 20) (H : post (nI (pt_cnt (fun i => decide (a4 i = nI i)) N))) : wpX_classes post (nI N, pc, tc, cp, wh, vs, ce, a1, a2, a3, a4, a5, a6, a7, a8, a9, a10, a11, a12, a13, a14, a15, a16) :=
  pk_loop (σ := Unit) (fun n i _ => wX_classes_4 post (nI N) pc tc cp wh vs ce a1 a2 a3 a4 a5 a6 a7 a8 a9 a10 a11 a12 a13 a14 a15 a16 n (nI (pt_cnt (fun i => decide (a4 i = nI i)) i)) (nI i)) (fun _ _ => True) N 0 () (Nat.zero_le _) trivial
    (fun n _ _ => pk_le N N (fun _ => H) (fun z => absurd z (by omega)))
    (fun n i _ hi _ hw => by
      have ci : (nI i).toNatClampNeg = i := nI_clamp (by omega)
      have t := hw () trivial
      refine pk_le N i (fun z => absurd z (by omega)) (fun _ => ⟨pk_in i 20 (by omega), br_c (fun g => ?_) (fun g => ?_)⟩)
      · rw [ci] at g
        have e : pt_cnt (fun i => decide (a4 i = nI i)) (i + 1) = pt_cnt (fun i => decide (a4 i = nI i)) i + 1 := pt_cnt_t (decide_eq_true g)
        rw [e] at t
        exact nm_r (nI_1 _) (nm_r (nI_1 i) t)
      · rw [ci] at g
        have e : pt_cnt (fun i => decide (a4 i = nI i)) (i + 1) = pt_cnt (fun i => decide (a4 i = nI i)) i := pt_cnt_f (decide_eq_false g)
        rw [e] at t
        exact nm_r (nI_1 i) t)
theorem pt_110 {post : St2 → Prop} {J : Int32 → Int32 → Int32 → Int32 → Int32 → Int32 → Int32 → Int32 → (Nat → Int32) → (Nat → Int32) → (Nat → Int32) → (Nat → Int32) → (Nat → Int32) → (Nat → Int32) → (Nat → Int32) → (Nat → Int32) → (Nat → Int32) → (Nat → Int32) → (Nat → Int32) → (Nat → Int32) → (Nat → Int32) → (Nat → Int32) → (Nat → Int32) → (Nat → Int64) → Prop} {n : Nat} (K : pt_K N sy lf rt a1 a2 a3) (hN : N ≤ 20) (hn : n < N) (hc : ∀ m, m < n → ¬ a4 m = a4 n → ¬ pt_cong a4 sy lf rt m n) (H : J (nI (n + 1)) (nI N) pc tc cp wh vs ce a1 a2 a3 a4 a5 a6 a7 a8 a9 a10 a11 a12 a13 a14 a15 a16) : ∃ f, wX_join_110 post J (nI n) f 0 (nI N) pc tc cp wh vs ce a1 a2 a3 a4 a5 a6 a7 a8 a9 a10 a11 a12 a13 a14 a15 a16 :=
  pk_loop (σ := Unit) (fun f i _ => wX_join_110 post J (nI n) f (nI i) (nI N) pc tc cp wh vs ce a1 a2 a3 a4 a5 a6 a7 a8 a9 a10 a11 a12 a13 a14 a15 a16) (fun _ _ => True) n 0 () (Nat.zero_le _) trivial
    (fun f _ _ => pk_le n n (fun _ => nm_r (nI_1 n) H) (fun z => absurd z (by omega)))
    (fun f i _ hi _ hw => by
      have ci : (nI i).toNatClampNeg = i := nI_clamp (by omega)
      have cn : (nI n).toNatClampNeg = n := nI_clamp (by omega)
      refine pk_le n i (fun z => absurd z (by omega)) (fun _ => ⟨pk_in i 20 (by omega), pk_in n 20 (by omega), br_c (fun g => nm_r (nI_1 i) (hw () trivial)) (fun g => ?_)⟩)
      rw [ci, cn] at g
      exact pt_congr K (by omega) hn hN (fun _ => br_t rfl (nm_r (nI_1 i) (hw () trivial))) (fun q => absurd q (hc i hi g)))
theorem pt_98 {post : St2 → Prop} (K : pt_K N sy lf rt a1 a2 a3) (hN : N ≤ 20) (h1 : 1 ≤ N) (hc : ∀ m n, m < n → n < N → ¬ a4 m = a4 n → ¬ pt_cong a4 sy lf rt m n) (H : post (nI N, pc, tc, cp, wh, vs, ce, a1, a2, a3, a4, a5, a6, a7, a8, a9, a10, a11, a12, a13, a14, a15, a16)) : ∃ f, wX_join_98 post f 1 (nI N) pc tc cp wh vs ce a1 a2 a3 a4 a5 a6 a7 a8 a9 a10 a11 a12 a13 a14 a15 a16 :=
  pk_loop (σ := Unit) (fun f i _ => wX_join_98 post f (nI i) (nI N) pc tc cp wh vs ce a1 a2 a3 a4 a5 a6 a7 a8 a9 a10 a11 a12 a13 a14 a15 a16) (fun _ _ => True) N 1 () h1 trivial
    (fun f _ _ => pk_le N N (fun _ => H) (fun z => absurd z (by omega)))
    (fun f i _ hi _ hw => pk_le N i (fun z => absurd z (by omega)) (fun _ => pt_110 K hN hi (fun m hm => hc m i hm hi) (hw () trivial)))
/-- equate(3, 0) on the first four nodes -/
theorem pt_equate {post : Int32 → St2 → Prop} (K : pt_K 4 sy lf rt a1 a2 a3) (h0 : a4 0 = nI 0) (h1 : a4 1 = nI 1) (h2 : a4 2 = nI 2) (h3 : a4 3 = nI 3)
    (hc : ∀ m n, m < n → n < 4 → ¬ upd a4 3 (nI 0) m = upd a4 3 (nI 0) n → ¬ pt_cong (upd a4 3 (nI 0)) sy lf rt m n)
    (H : ∀ b5 b6, post (nI 3) (nI 4, 0, tc, cp, wh, vs, ce, a1, a2, a3, upd a4 3 (nI 0), b5, b6, a7, a8, a9, a10, a11, a12, a13, a14, a15, a16)) : wpX_equate post (nI 4, pc, tc, cp, wh, vs, ce, a1, a2, a3, a4, a5, a6, a7, a8, a9, a10, a11, a12, a13, a14, a15, a16) (nI 3) (nI 0) := by
  unfold wpX_equate
  refine pt_isN (by omega) (by omega) (br_f (by decide) (pt_isN (by omega) (by omega) (br_f (by decide) ?_)))
  have e5 : upd a5 (0 : Int32).toNatClampNeg (nI 3).toInt8.toInt32 = upd a5 0 (nI 3) := by rw [pt_b8 3 (by omega)]; rfl
  have e6 : upd a6 (0 : Int32).toNatClampNeg (nI 0).toInt8.toInt32 = upd a6 0 (nI 0) := by rw [pt_b8 0 (by omega)]; rfl
  have i3 : vp_in (nI 3) 20 := pk_in 3 20 (by omega)
  have c0 : (nI 0).toNatClampNeg = 0 := nI_clamp (by omega)
  have c1 : (nI 1).toNatClampNeg = 1 := nI_clamp (by omega)
  have c2 : (nI 2).toNatClampNeg = 2 := nI_clamp (by omega)
  have c3 : (nI 3).toNatClampNeg = 3 := nI_clamp (by omega)
  have p0 : upd a5 0 (nI 3) (nI 0).toNatClampNeg = nI 3 := by rw [c0]; exact pk_us
  have p1 : upd a6 0 (nI 0) (nI 0).toNatClampNeg = nI 0 := by rw [c0]; exact pk_us
  have eu : upd a4 (nI 3).toNatClampNeg (nI 0).toInt8.toInt32 = upd a4 3 (nI 0) := by rw [c3, pt_b8 0 (by omega)]
  have g0 : ¬ a4 (nI 0).toNatClampNeg = nI 3 := by rw [c0, h0]; decide
  have g1 : ¬ a4 (nI 1).toNatClampNeg = nI 3 := by rw [c1, h1]; decide
  have g2 : ¬ a4 (nI 2).toNatClampNeg = nI 3 := by rw [c2, h2]; decide
  have g3 : a4 (nI 3).toNatClampNeg = nI 3 := by rw [c3, h3]
  have g0' : a4 (nI 0).toNatClampNeg = nI 0 := by rw [c0, h0]
  have hcnt : pt_cnt (fun i => decide (upd a4 3 (nI 0) i = nI i)) 4 = 3 := by
    have k0 : upd a4 3 (nI 0) 0 = nI 0 := by rw [pk_un (show 0 ≠ 3 by decide)]; exact h0
    have k1 : upd a4 3 (nI 0) 1 = nI 1 := by rw [pk_un (show 1 ≠ 3 by decide)]; exact h1
    have k2 : upd a4 3 (nI 0) 2 = nI 2 := by rw [pk_un (show 2 ≠ 3 by decide)]; exact h2
    have k3 : ¬ upd a4 3 (nI 0) 3 = nI 3 := by rw [pk_us]; decide
    exact pt_cnt4 (decide_eq_true k0) (decide_eq_true k1) (decide_eq_true k2) (decide_eq_false k3)
  refine ⟨pk_in 0 190 (by omega), nm_r e5 ⟨pk_in 0 190 (by omega), nm_r e6 (nm_r (nI_1 0) ⟨2, ?_⟩)⟩⟩
  refine br_f (by decide) (nm_r (nI_pred 0) ⟨pk_in 0 190 (by omega), pk_in 0 190 (by omega), ?_⟩)
  rw [p0, p1]
  refine ⟨i3, nm_r g3 ⟨pk_in 0 20 (by omega), nm_r g0' (br_f (by decide) (br_t (by decide) (br_t (by decide) ⟨5, ?_⟩)))⟩⟩
  refine br_f (by decide) ⟨pk_in 0 20 (by omega), br_f g0 (nm_r (nI_1 0) ?_)⟩
  refine br_f (by decide) ⟨pk_in 1 20 (by omega), br_f g1 (nm_r (nI_1 1) ?_)⟩
  refine br_f (by decide) ⟨pk_in 2 20 (by omega), br_f g2 (nm_r (nI_1 2) ?_)⟩
  refine br_f (by decide) ⟨pk_in 3 20 (by omega), br_t g3 ⟨pk_in 3 20 (by omega), nm_r eu (nm_r (nI_1 3) ?_)⟩⟩
  refine br_t (by decide) ?_
  refine pt_98 K (by omega) (by omega) hc ?_
  refine br_t (by decide) ?_
  refine pt_classes (by omega) ?_
  rw [hcnt]
  exact H _ _
end
end
section
section
variable {N n T o i e r t g z : Nat} {nc pc tc cp wh vs vt ce x2 : Int32} {a1 a2 a3 a4 a5 a6 a7 a8 a9 a10 a11 a12 a13 a14 a15 : Nat → Int32} {a16 : Nat → Int64}
theorem pt_tok {post : Int32 → St2 → Prop} (hT : T < 7) (ht : t ≤ 2 ∨ t = 10 ∨ t = 20 ∨ t = 21) (H : post (nI (T + 1)) (nI N, pc, nI (T + 1), 0, wh, vs, ce, a1, a2, a3, a4, a5, a6, upd a7 T (nI t), a8, a9, a10, a11, a12, a13, a14, a15, a16)) : wpX_token post (nI N, pc, nI T, cp, wh, vs, ce, a1, a2, a3, a4, a5, a6, a7, a8, a9, a10, a11, a12, a13, a14, a15, a16) (nI t) := by
  have e7 : upd a7 (nI T).toNatClampNeg (nI t).toInt8.toInt32 = upd a7 T (nI t) := by rw [nI_clamp (show T < 2 ^ 31 by omega), pt_b8 t (by omega)]
  have F : wX_token_45 post (nI t) (nI N) pc (nI T) cp wh vs ce a1 a2 a3 a4 a5 a6 a7 a8 a9 a10 a11 a12 a13 a14 a15 a16 := br_f (by decide) ⟨pk_in T 7 hT, nm_r e7 (nm_r (nI_1 T) H)⟩
  refine br_t (nI_lt (b := 7) hT (by decide)) (br_f (nI_pos (by omega)) ?_)
  refine pk_le t 2 (fun _ => F) (fun h2 => ?_)
  refine pk_lt t 10 (fun z => absurd z (by omega)) (fun _ => ?_)
  refine pk_le t 15 (fun _ => F) (fun h15 => ?_)
  exact pk_eq t 20 (fun _ => F) (fun h20 => pk_eq t 21 (fun _ => F) (fun h21 => absurd ht (by omega)))
theorem pt_write {post : St2 → Prop} {x y w : Nat} (he : e < 10) (hx : x < 128) (hy : y < 128) (hw : w < 128) (H : post (nI N, pc, tc, cp, wh, vs, nI (e + 1), a1, a2, a3, a4, a5, a6, a7, upd a8 e (nI x), upd a9 e (nI y), upd a10 e (nI w), a11, a12, a13, a14, a15, a16)) : wpX_write post (nI N, pc, tc, cp, wh, vs, nI e, a1, a2, a3, a4, a5, a6, a7, a8, a9, a10, a11, a12, a13, a14, a15, a16) (nI x) (nI y) (nI w) := by
  have c : (nI e).toNatClampNeg = e := nI_clamp (by omega)
  have ie : vp_in (nI e) 10 := pk_in e 10 he
  exact ⟨ie, nm_r (by rw [c, pt_b8 x hx]) ⟨ie, nm_r (by rw [c, pt_b8 y hy]) ⟨ie, nm_r (by rw [c, pt_b8 w hw]) (nm_r (nI_1 e) H)⟩⟩⟩
/-- one token: a variable -/
theorem pt_cv {post : St2 → Prop} (hi : i < T) (hT : T ≤ 7) (ho : o < 8) (he : e < 10) (ht : t < 3) (hr : r < 16) (h7 : a7 i = nI t) (h12 : a12 o = nI r) (hv : vs ||| ((1 : Int32) <<< (nI t &&& 31)) = vt)
    (hz : ((vs >>> (nI t &&& 31)) &&& 1 = 0 ∧ z = 1) ∨ (¬ (vs >>> (nI t &&& 31)) &&& 1 = 0 ∧ z = 2))
    (H : wX_compile_41 post n (nI o) x2 (nI (i + 1)) (nI N) pc (nI T) cp wh vt (nI (e + 1)) a1 a2 a3 a4 a5 a6 a7 (upd a8 e (nI z)) (upd a9 e (nI t)) (upd a10 e (nI r)) a11 a12 a13 a14 a15 a16) :
    wX_compile_41 post (n + 1) (nI (o + 1)) x2 (nI i) (nI N) pc (nI T) cp wh vs (nI e) a1 a2 a3 a4 a5 a6 a7 a8 a9 a10 a11 a12 a13 a14 a15 a16 := by
  have c7 : a7 (nI i).toNatClampNeg = nI t := by rw [nI_clamp (show i < 2 ^ 31 by omega)]; exact h7
  have c12 : a12 (nI o).toNatClampNeg = nI r := by rw [nI_clamp (show o < 2 ^ 31 by omega)]; exact h12
  refine pk_le T i (fun q => absurd q (by omega)) (fun _ => pk_le (o + 1) 0 (fun q => absurd q (by omega)) (fun _ => ⟨pk_in i 7 (by omega), nm_r c7 (nm_r (nI_1 i) (nm_r (pk_m1 o) ⟨pk_in o 8 ho, nm_r c12 (pk_lt 2 t (fun q => absurd q (by omega)) (fun _ => ?_))⟩))⟩))
  rcases hz with ⟨h1, h2⟩ | ⟨h1, h2⟩
  · subst h2
    exact br_t h1 (pt_write (x := 1) he (by omega) (by omega) (by omega) (nm_r hv H))
  · subst h2
    exact br_f h1 (pt_write (x := 2) he (by omega) (by omega) (by omega) (nm_r hv H))
/-- one token: the symbol of one argument -/
theorem pt_c1 {post : St2 → Prop} (hi : i < T) (hT : T ≤ 7) (ho : o < 8) (he : e < 8) (hr : r < 16) (hg : g < 16) (h7 : a7 i = nI 20) (h12 : a12 o = nI r)
    (H : wX_compile_41 post n (nI (o + 1)) (nI (g + 1)) (nI (i + 1)) (nI N) pc (nI T) cp wh vs (nI (e + 1)) a1 a2 a3 a4 a5 a6 a7 (upd a8 e (nI 0)) (upd a9 e (nI 20)) (upd a10 e (nI r)) (upd a11 e (nI g)) (upd a12 o (nI g)) a13 a14 a15 a16) :
    wX_compile_41 post (n + 1) (nI (o + 1)) (nI g) (nI i) (nI N) pc (nI T) cp wh vs (nI e) a1 a2 a3 a4 a5 a6 a7 a8 a9 a10 a11 a12 a13 a14 a15 a16 := by
  have c7 : a7 (nI i).toNatClampNeg = nI 20 := by rw [nI_clamp (show i < 2 ^ 31 by omega)]; exact h7
  have c12 : a12 (nI o).toNatClampNeg = nI r := by rw [nI_clamp (show o < 2 ^ 31 by omega)]; exact h12
  have e12 : upd a12 (nI o).toNatClampNeg (nI g).toInt8.toInt32 = upd a12 o (nI g) := by rw [nI_clamp (show o < 2 ^ 31 by omega), pt_b8 g (by omega)]
  have e11 : upd a11 (nI (e + 1) - 1).toNatClampNeg (nI g).toInt8.toInt32 = upd a11 e (nI g) := by rw [nI_pred, nI_clamp (show e < 2 ^ 31 by omega), pt_b8 g (by omega)]
  refine pk_le T i (fun q => absurd q (by omega)) (fun _ => pk_le (o + 1) 0 (fun q => absurd q (by omega)) (fun _ => ⟨pk_in i 7 (by omega), nm_r c7 (nm_r (nI_1 i) (nm_r (pk_m1 o) ⟨pk_in o 8 ho, nm_r c12 (br_t (by decide) (br_t (by decide) ?_))⟩))⟩))
  refine pt_write (x := 0) (y := 20) (by omega) (by omega) (by omega) (by omega) ?_
  exact br_f (by decide) ⟨pk_in o 8 ho, nm_r e12 (nm_r (nI_1 o) ⟨pk_in e 8 he (nI_pred e), nm_r e11 (br_f (by decide) (nm_r (nI_1 g) H))⟩)⟩
/-- one token: the symbol of two arguments -/
theorem pt_c2 {post : St2 → Prop} (hi : i < T) (hT : T ≤ 7) (ho : o < 7) (he : e < 8) (hr : r < 16) (hg : g < 16) (h7 : a7 i = nI 21) (h12 : a12 o = nI r)
    (H : wX_compile_41 post n (nI (o + 2)) (nI (g + 2)) (nI (i + 1)) (nI N) pc (nI T) cp wh vs (nI (e + 1)) a1 a2 a3 a4 a5 a6 a7 (upd a8 e (nI 0)) (upd a9 e (nI 21)) (upd a10 e (nI r)) (upd a11 e (nI g)) (upd (upd a12 o (nI (g + 1))) (o + 1) (nI g)) a13 a14 a15 a16) :
    wX_compile_41 post (n + 1) (nI (o + 1)) (nI g) (nI i) (nI N) pc (nI T) cp wh vs (nI e) a1 a2 a3 a4 a5 a6 a7 a8 a9 a10 a11 a12 a13 a14 a15 a16 := by
  have c7 : a7 (nI i).toNatClampNeg = nI 21 := by rw [nI_clamp (show i < 2 ^ 31 by omega)]; exact h7
  have c12 : a12 (nI o).toNatClampNeg = nI r := by rw [nI_clamp (show o < 2 ^ 31 by omega)]; exact h12
  have e12 : upd a12 (nI o).toNatClampNeg (nI g + 1).toInt8.toInt32 = upd a12 o (nI (g + 1)) := by rw [nI_1, nI_clamp (show o < 2 ^ 31 by omega), pt_b8 (g + 1) (by omega)]
  have e12' : upd (upd a12 o (nI (g + 1))) (nI (o + 1)).toNatClampNeg (nI g).toInt8.toInt32 = upd (upd a12 o (nI (g + 1))) (o + 1) (nI g) := by rw [nI_clamp (show o + 1 < 2 ^ 31 by omega), pt_b8 g (by omega)]
  have e11 : upd a11 (nI (e + 1) - 1).toNatClampNeg (nI g).toInt8.toInt32 = upd a11 e (nI g) := by rw [nI_pred, nI_clamp (show e < 2 ^ 31 by omega), pt_b8 g (by omega)]
  have eg : nI g + 2 = nI (g + 2) := nI_add g 2
  refine pk_le T i (fun q => absurd q (by omega)) (fun _ => pk_le (o + 1) 0 (fun q => absurd q (by omega)) (fun _ => ⟨pk_in i 7 (by omega), nm_r c7 (nm_r (nI_1 i) (nm_r (pk_m1 o) ⟨pk_in o 8 (by omega), nm_r c12 (br_t (by decide) (br_t (by decide) ?_))⟩))⟩))
  refine pt_write (x := 0) (y := 21) (by omega) (by omega) (by omega) (by omega) ?_
  refine br_t (by decide) ⟨pk_in o 8 (by omega), nm_r e12 (nm_r (nI_1 o) ?_)⟩
  exact ⟨pk_in (o + 1) 8 (by omega), nm_r e12' (nm_r (nI_1 (o + 1)) ⟨pk_in e 8 he (nI_pred e), nm_r e11 (br_t (by decide) (nm_r eg H))⟩)⟩
/-- the end: whole -/
theorem pt_ce1 {post : St2 → Prop} (hT : T ≤ 7) (he : e < 10) (H : post (nI N, pc, nI T, cp, 1, vs, nI (e + 1), a1, a2, a3, a4, a5, a6, a7, upd a8 e (nI 4), upd a9 e (nI 0), upd a10 e (nI 0), a11, a12, a13, a14, a15, a16)) : wX_compile_41 post (n + 1) (nI 0) x2 (nI T) (nI N) pc (nI T) cp wh vs (nI e) a1 a2 a3 a4 a5 a6 a7 a8 a9 a10 a11 a12 a13 a14 a15 a16 :=
  pk_le T T (fun _ => br_t (by decide) (br_t rfl ⟨rfl, rfl, pt_write (x := 4) (y := 0) (w := 0) he (by omega) (by omega) (by omega) H⟩)) (fun q => absurd q (by omega))
/-- the end: not whole -/
theorem pt_ce0 {post : St2 → Prop} (hT : T ≤ 7) (he : e < 10) (ho : o < 8) (h : (i = T ∧ 0 < o) ∨ (i < T ∧ o = 0)) (H : post (nI N, pc, nI T, cp, 0, vs, nI (e + 1), a1, a2, a3, a4, a5, a6, a7, upd a8 e (nI 4), upd a9 e (nI 0), upd a10 e (nI 0), a11, a12, a13, a14, a15, a16)) : wX_compile_41 post (n + 1) (nI o) x2 (nI i) (nI N) pc (nI T) cp wh vs (nI e) a1 a2 a3 a4 a5 a6 a7 a8 a9 a10 a11 a12 a13 a14 a15 a16 := by
  have F : wX_compile_232 post (nI N) pc (nI T) cp wh vs (nI e) a1 a2 a3 a4 a5 a6 a7 a8 a9 a10 a11 a12 a13 a14 a15 a16 := ⟨rfl, rfl, pt_write (x := 4) (y := 0) (w := 0) he (by omega) (by omega) (by omega) H⟩
  rcases h with ⟨h1, h2⟩ | ⟨h1, h2⟩
  · exact pk_le T i (fun _ => br_f (nI_ne0 h2 (by omega)) F) (fun q => absurd q (by omega))
  · exact pk_le T i (fun q => absurd q (by omega)) (fun _ => pk_le o 0 (fun _ => pk_eq o 0 (fun _ => pk_eq i T (fun q => absurd q (by omega)) (fun _ => F)) (fun q => absurd h2 q)) (fun q => absurd q (by omega)))
/-- the code of TWO(v0, ONE(v1)) -/
def pt_C1 (a8 a9 a10 a11 : Nat → Int32) : Prop := (a8 0 = nI 0 ∧ a8 1 = nI 1 ∧ a8 2 = nI 0 ∧ a8 3 = nI 1 ∧ a8 4 = nI 4) ∧ (a9 0 = nI 21 ∧ a9 1 = nI 0 ∧ a9 2 = nI 20 ∧ a9 3 = nI 1) ∧ (a10 0 = nI 0 ∧ a10 1 = nI 1 ∧ a10 2 = nI 2 ∧ a10 3 = nI 3) ∧ a11 0 = nI 1 ∧ a11 2 = nI 3
/-- the code of TWO(v2, v2) -/
def pt_C2 (a8 a9 a10 a11 : Nat → Int32) : Prop := (a8 0 = nI 0 ∧ a8 1 = nI 1 ∧ a8 2 = nI 2 ∧ a8 3 = nI 4) ∧ (a9 0 = nI 21 ∧ a9 1 = nI 2 ∧ a9 2 = nI 2) ∧ (a10 0 = nI 0 ∧ a10 1 = nI 1 ∧ a10 2 = nI 2) ∧ a11 0 = nI 1
theorem pt_comp1 {post : St2 → Prop} (h0 : a7 0 = nI 21) (h1 : a7 1 = nI 0) (h2 : a7 2 = nI 20) (h3 : a7 3 = nI 1) (H : ∀ ce a8 a9 a10 a11 a12, pt_C1 a8 a9 a10 a11 → post (nI N, pc, nI 4, 1, 1, nI 3, ce, a1, a2, a3, a4, a5, a6, a7, a8, a9, a10, a11, a12, a13, a14, a15, a16)) : wpX_compile post (nI N, pc, nI 4, 0, wh, vs, ce, a1, a2, a3, a4, a5, a6, a7, a8, a9, a10, a11, a12, a13, a14, a15, a16) := by
  refine br_t rfl (nm_e ⟨5, ?_⟩)
  refine pt_c2 (T := 4) (o := 0) (i := 0) (e := 0) (r := 0) (g := 1) (by omega) (by omega) (by omega) (by omega) (by omega) (by omega) h0 rfl ?_
  refine pt_cv (T := 4) (o := 1) (i := 1) (e := 1) (t := 0) (r := 1) (z := 1) (vt := nI 1) (by omega) (by omega) (by omega) (by omega) (by omega) (by omega) h1 rfl (by decide) (Or.inl ⟨by decide, rfl⟩) ?_
  refine pt_c1 (T := 4) (o := 0) (i := 2) (e := 2) (r := 2) (g := 3) (by omega) (by omega) (by omega) (by omega) (by omega) (by omega) h2 rfl ?_
  refine pt_cv (T := 4) (o := 0) (i := 3) (e := 3) (t := 1) (r := 3) (z := 1) (vt := nI 3) (by omega) (by omega) (by omega) (by omega) (by omega) (by omega) h3 rfl (by decide) (Or.inl ⟨by decide, rfl⟩) ?_
  refine pt_ce1 (T := 4) (e := 4) (by omega) (by omega) ?_
  exact H _ _ _ _ _ _ ⟨⟨rfl, rfl, rfl, rfl, rfl⟩, ⟨rfl, rfl, rfl, rfl⟩, ⟨rfl, rfl, rfl, rfl⟩, rfl, rfl⟩
theorem pt_comp0 {post : St2 → Prop} (h0 : a7 0 = nI 21) (h1 : a7 1 = nI 0) (h2 : a7 2 = nI 20) (H : ∀ vs ce a8 a9 a10 a11 a12, post (nI N, pc, nI 3, 1, 0, vs, ce, a1, a2, a3, a4, a5, a6, a7, a8, a9, a10, a11, a12, a13, a14, a15, a16)) : wpX_compile post (nI N, pc, nI 3, 0, wh, vs, ce, a1, a2, a3, a4, a5, a6, a7, a8, a9, a10, a11, a12, a13, a14, a15, a16) := by
  refine br_t rfl (nm_e ⟨4, ?_⟩)
  refine pt_c2 (T := 3) (o := 0) (i := 0) (e := 0) (r := 0) (g := 1) (by omega) (by omega) (by omega) (by omega) (by omega) (by omega) h0 rfl ?_
  refine pt_cv (T := 3) (o := 1) (i := 1) (e := 1) (t := 0) (r := 1) (z := 1) (vt := nI 1) (by omega) (by omega) (by omega) (by omega) (by omega) (by omega) h1 rfl (by decide) (Or.inl ⟨by decide, rfl⟩) ?_
  refine pt_c1 (T := 3) (o := 0) (i := 2) (e := 2) (r := 2) (g := 3) (by omega) (by omega) (by omega) (by omega) (by omega) (by omega) h2 rfl ?_
  refine pt_ce0 (T := 3) (e := 3) (o := 1) (i := 3) (by omega) (by omega) (by omega) (Or.inl ⟨rfl, by omega⟩) ?_
  exact H _ _ _ _ _ _ _
theorem pt_comp2 {post : St2 → Prop} (h0 : a7 0 = nI 21) (h1 : a7 1 = nI 2) (h2 : a7 2 = nI 2) (H : ∀ ce a8 a9 a10 a11 a12, pt_C2 a8 a9 a10 a11 → post (nI N, pc, nI 3, 1, 1, nI 4, ce, a1, a2, a3, a4, a5, a6, a7, a8, a9, a10, a11, a12, a13, a14, a15, a16)) : wpX_compile post (nI N, pc, nI 3, 0, wh, vs, ce, a1, a2, a3, a4, a5, a6, a7, a8, a9, a10, a11, a12, a13, a14, a15, a16) := by
  refine br_t rfl (nm_e ⟨4, ?_⟩)
  refine pt_c2 (T := 3) (o := 0) (i := 0) (e := 0) (r := 0) (g := 1) (by omega) (by omega) (by omega) (by omega) (by omega) (by omega) h0 rfl ?_
  refine pt_cv (T := 3) (o := 1) (i := 1) (e := 1) (t := 2) (r := 1) (z := 1) (vt := nI 4) (by omega) (by omega) (by omega) (by omega) (by omega) (by omega) h1 rfl (by decide) (Or.inl ⟨by decide, rfl⟩) ?_
  refine pt_cv (T := 3) (o := 0) (i := 2) (e := 2) (t := 2) (r := 2) (z := 2) (vt := nI 4) (by omega) (by omega) (by omega) (by omega) (by omega) (by omega) h2 rfl (by decide) (Or.inr ⟨by decide, rfl⟩) ?_
  refine pt_ce1 (T := 3) (e := 3) (by omega) (by omega) ?_
  exact H _ _ _ _ _ _ ⟨⟨rfl, rfl, rfl, rfl⟩, ⟨rfl, rfl, rfl⟩, ⟨rfl, rfl, rfl⟩, rfl⟩
theorem pt_comp3 {post : St2 → Prop} (h0 : a7 0 = nI 21) (h1 : a7 1 = nI 2) (h2 : a7 2 = nI 2) (H : ∀ vs ce a8 a9 a10 a11 a12, post (nI N, pc, nI 4, 1, 0, vs, ce, a1, a2, a3, a4, a5, a6, a7, a8, a9, a10, a11, a12, a13, a14, a15, a16)) : wpX_compile post (nI N, pc, nI 4, 0, wh, vs, ce, a1, a2, a3, a4, a5, a6, a7, a8, a9, a10, a11, a12, a13, a14, a15, a16) := by
  refine br_t rfl (nm_e ⟨4, ?_⟩)
  refine pt_c2 (T := 4) (o := 0) (i := 0) (e := 0) (r := 0) (g := 1) (by omega) (by omega) (by omega) (by omega) (by omega) (by omega) h0 rfl ?_
  refine pt_cv (T := 4) (o := 1) (i := 1) (e := 1) (t := 2) (r := 1) (z := 1) (vt := nI 4) (by omega) (by omega) (by omega) (by omega) (by omega) (by omega) h1 rfl (by decide) (Or.inl ⟨by decide, rfl⟩) ?_
  refine pt_cv (T := 4) (o := 0) (i := 2) (e := 2) (t := 2) (r := 2) (z := 2) (vt := nI 4) (by omega) (by omega) (by omega) (by omega) (by omega) (by omega) h2 rfl (by decide) (Or.inr ⟨by decide, rfl⟩) ?_
  refine pt_ce0 (T := 4) (e := 3) (o := 0) (i := 3) (by omega) (by omega) (by omega) (Or.inr ⟨by omega, rfl⟩) ?_
  exact H _ _ _ _ _ _ _
end
end
section
section
variable {N n p r s q g t v : Nat} {nc pc tc cp wh vs ce x2 : Int32} {a1 a2 a3 a4 a5 a6 a7 a8 a9 a10 a11 a12 a13 a14 a15 : Nat → Int32} {a16 : Nat → Int64} {sy lf rt ld : Nat → Nat}
/-- the nodes as the matcher reads them -/
def pt_M (N : Nat) (sy lf rt ld : Nat → Nat) (a1 a2 a3 a4 : Nat → Int32) : Prop := N ≤ 20 ∧ ∀ n, n < N → (a1 n = nI (sy n) ∧ a2 n = nI (lf n) ∧ a3 n = nI (rt n) ∧ a4 n = nI (ld n)) ∧ sy n < 22 ∧ lf n < N ∧ rt n < N ∧ ld n < N
theorem pt_take {post : Int32 → St2 → Prop} (M : pt_M N sy lf rt ld a1 a2 a3 a4) (hp : p < 8) (hr : r < 16) (hg : g < 15) (hs : s < 22) (hq : q < 20) (ht : t ≤ N) (h9 : a9 p = nI s) (h10 : a10 p = nI r) (h11 : a11 p = nI g) (h13 : a13 r = nI q) (h15 : a15 p + 1 = nI t)
    (H0 : (∀ j, t ≤ j → j < N → ¬ (ld j = q ∧ sy j = s)) → post 0 (nI N, pc, tc, cp, wh, vs, ce, a1, a2, a3, a4, a5, a6, a7, a8, a9, a10, a11, a12, a13, a14, a15, a16))
    (H1 : ∀ n, t ≤ n → n < N → (∀ j, t ≤ j → j < n → ¬ (ld j = q ∧ sy j = s)) → ld n = q → sy n = s → ∀ b13 : Nat → Int32, b13 g = nI (ld (lf n)) → (s = 21 → b13 (g + 1) = nI (ld (rt n))) → (∀ j, j ≠ g → j ≠ g + 1 → b13 j = a13 j) → post 1 (nI N, pc, tc, cp, wh, vs, ce, a1, a2, a3, a4, a5, a6, a7, a8, a9, a10, a11, a12, b13, a14, upd a15 p (nI n), a16)) :
    wpX_take post (nI N, pc, tc, cp, wh, vs, ce, a1, a2, a3, a4, a5, a6, a7, a8, a9, a10, a11, a12, a13, a14, a15, a16) (nI p) := by
  obtain ⟨hN, M⟩ := M
  obtain ⟨e, e1, e2, e3, e4⟩ := pt_fst (fun j => ld j = q ∧ sy j = s) ht
  have kp : (nI p).toNatClampNeg = p := nI_clamp (by omega)
  have kr : (nI r).toNatClampNeg = r := nI_clamp (by omega)
  have kg : (nI g).toNatClampNeg = g := nI_clamp (by omega)
  have ip : vp_in (nI p) 10 := pk_in p 10 (by omega)
  have x10 : a10 (nI p).toNatClampNeg = nI r := by rw [kp]; exact h10
  have x9 : a9 (nI p).toNatClampNeg = nI s := by rw [kp]; exact h9
  have x11 : a11 (nI p).toNatClampNeg = nI g := by rw [kp]; exact h11
  have x13 : a13 (a10 (nI p).toNatClampNeg).toNatClampNeg = nI q := by rw [x10, kr]; exact h13
  have ir : vp_in (a10 (nI p).toNatClampNeg) 16 := pk_in r 16 hr x10
  refine ⟨ip, nm_r (show a15 (nI p).toNatClampNeg + 1 = nI t by rw [kp]; exact h15) ?_⟩
  refine pk_loop (σ := Unit) (fun n i _ => wX_take_9 post (nI p) (nI N) pc tc cp wh vs ce a1 a2 a3 a4 a5 a6 a7 a8 a9 a10 a11 a12 a13 a14 a15 a16 n (nI i)) (fun i _ => t ≤ i) e t () e1 (Nat.le_refl t) (fun n _ _ => ?_) (fun n i _ hi hti hw => ?_)
  · by_cases z : e < N
    · obtain ⟨⟨m1, m2, m3, m4⟩, m5, m6, m7, m8⟩ := M e z
      obtain ⟨⟨_, _, _, l4⟩, _, _, _, l8⟩ := M (lf e) m6
      obtain ⟨⟨_, _, _, r4⟩, _, _, _, r8⟩ := M (rt e) m7
      obtain ⟨A1, A2⟩ := e4 z
      have ke : (nI e).toNatClampNeg = e := nI_clamp (by omega)
      have ie : vp_in (nI e) 20 := pk_in e 20 (by omega)
      have y1 : a1 (nI e).toNatClampNeg = nI (sy e) := by rw [ke]; exact m1
      have y2 : a2 (nI e).toNatClampNeg = nI (lf e) := by rw [ke]; exact m2
      have y3 : a3 (nI e).toNatClampNeg = nI (rt e) := by rw [ke]; exact m3
      have y4 : a4 (nI e).toNatClampNeg = nI (ld e) := by rw [ke]; exact m4
      have w4 : vp_nar .byte (a4 (a2 (nI e).toNatClampNeg).toNatClampNeg) = nI (ld (lf e)) := by
        rw [y2, nI_clamp (show lf e < 2 ^ 31 by omega), l4, pt_vb (by omega)]
      have w5 : vp_nar .byte (a4 (a3 (nI e).toNatClampNeg).toNatClampNeg) = nI (ld (rt e)) := by
        rw [y3, nI_clamp (show rt e < 2 ^ 31 by omega), r4, pt_vb (by omega)]
      have E15 : upd a15 (nI p).toNatClampNeg (nI e).toInt8.toInt32 = upd a15 p (nI e) := by rw [kp, pt_b8 e (by omega)]
      have E13 : upd a13 (nI g).toNatClampNeg (vp_nar .byte (a4 (a2 (nI e).toNatClampNeg).toNatClampNeg)) = upd a13 g (nI (ld (lf e))) := by rw [kg, w4]
      have E13' : upd (upd a13 g (nI (ld (lf e)))) (nI g + 1).toNatClampNeg (vp_nar .byte (a4 (a3 (nI e).toNatClampNeg).toNatClampNeg)) = upd (upd a13 g (nI (ld (lf e)))) (g + 1) (nI (ld (rt e))) := by
        rw [nI_1, nI_clamp (show g + 1 < 2 ^ 31 by omega), w5]
      have k1 : a4 (nI e).toNatClampNeg = a13 (a10 (nI p).toNatClampNeg).toNatClampNeg := by rw [y4, x13, A1]
      have k2 : a1 (nI e).toNatClampNeg = a9 (nI p).toNatClampNeg := by rw [y1, x9, A2]
      have T58 : wX_take_58 post (nI p) (nI e) (nI N) pc tc cp wh vs ce a1 a2 a3 a4 a5 a6 a7 a8 a9 a10 a11 a12 a13 a14 a15 a16 := by
        refine br_t (nI_lt z (by omega)) ⟨ip, nm_r E15 ⟨pk_in p 8 hp, nm_r x11 ⟨ie, pk_in (lf e) 20 (by omega) y2, pk_in g 16 (by omega), nm_r E13 ⟨ie, ?_⟩⟩⟩⟩
        refine pk_eq (sy e) 21 (fun w => ⟨ie, pk_in (rt e) 20 (by omega) y3, pk_in (g + 1) 16 (by omega) (nI_1 g), nm_r E13' ?_⟩) (fun w => ?_) y1
        · exact H1 e e1 z e3 A1 A2 _ (by rw [pk_un (show g ≠ g + 1 by omega), pk_us]) (fun _ => pk_us) (fun j j1 j2 => by rw [pk_un j2, pk_un j1])
        · exact H1 e e1 z e3 A1 A2 _ pk_us (fun h => absurd (A2.trans h) w) (fun j j1 j2 => pk_un j1)
      exact br_f (nI_ge z (by omega)) ⟨ie, ip, ir, br_t k1 ⟨ie, ip, br_t k2 T58⟩⟩
    · have eN : e = N := by omega
      subst eN
      exact br_t (nI_le (Nat.le_refl e) (by omega)) (br_f (nI_nlt (Nat.le_refl e) (by omega)) (H0 e3))
  · obtain ⟨⟨m1, m2, m3, m4⟩, m5, m6, m7, m8⟩ := M i (by omega)
    have ki : (nI i).toNatClampNeg = i := nI_clamp (by omega)
    have ii : vp_in (nI i) 20 := pk_in i 20 (by omega)
    have y1 : a1 (nI i).toNatClampNeg = nI (sy i) := by rw [ki]; exact m1
    have y4 : a4 (nI i).toNatClampNeg = nI (ld i) := by rw [ki]; exact m4
    have hn : ¬ (ld i = q ∧ sy i = s) := e3 i hti hi
    exact br_f (nI_ge (show i < N by omega) (by omega)) ⟨ii, ip, ir, pk_eq (ld i) q (fun w1 => ⟨ii, ip, pk_eq (sy i) s (fun w2 => absurd ⟨w1, w2⟩ hn) (fun _ => nm_r (nI_1 i) (hw () (by omega))) y1 x9⟩) (fun _ => nm_r (nI_1 i) (hw () (by omega))) y4 x13⟩
/-! decide: bind, compare, yield -/
theorem pt_bind {post : Int32 → St2 → Prop} (hp : p < 10) (hr : r < 16) (hq : q < 20) (hv : v < 3) (h8 : a8 p = nI 1) (h9 : a9 p = nI v) (h10 : a10 p = nI r) (h13 : a13 r = nI q) (H : post 1 (nI N, pc, tc, cp, wh, vs, ce, a1, a2, a3, a4, a5, a6, a7, a8, a9, a10, a11, a12, a13, upd a14 v (nI q), a15, a16)) : wpX_decide post (nI N, pc, tc, cp, wh, vs, ce, a1, a2, a3, a4, a5, a6, a7, a8, a9, a10, a11, a12, a13, a14, a15, a16) (nI p) := by
  have kp : (nI p).toNatClampNeg = p := nI_clamp (by omega)
  have ip : vp_in (nI p) 10 := pk_in p 10 hp
  have x8 : a8 (nI p).toNatClampNeg = nI 1 := by rw [kp]; exact h8
  have x9 : a9 (nI p).toNatClampNeg = nI v := by rw [kp]; exact h9
  have x10 : a10 (nI p).toNatClampNeg = nI r := by rw [kp]; exact h10
  have x13 : a13 (a10 (nI p).toNatClampNeg).toNatClampNeg = nI q := by rw [x10, nI_clamp (show r < 2 ^ 31 by omega)]; exact h13
  have E : upd a14 (nI v).toNatClampNeg (nI q).toInt8.toInt32 = upd a14 v (nI q) := by rw [nI_clamp (show v < 2 ^ 31 by omega), pt_b8 q (by omega)]
  exact ⟨ip, nm_r x8 (br_f (by decide) ⟨ip, pk_in r 16 hr x10, nm_r x13 ⟨ip, nm_r x9 (br_f (by decide) (br_f (by decide) ⟨pk_in v 3 hv, nm_r E H⟩))⟩⟩)⟩
theorem pt_cmp {post : Int32 → St2 → Prop} {w : Nat} (hp : p < 10) (hr : r < 16) (hq : q < 20) (hw : w < 20) (hv : v < 3) (h8 : a8 p = nI 2) (h9 : a9 p = nI v) (h10 : a10 p = nI r) (h13 : a13 r = nI q) (h14 : a14 v = nI w) (H1 : w = q → post 1 (nI N, pc, tc, cp, wh, vs, ce, a1, a2, a3, a4, a5, a6, a7, a8, a9, a10, a11, a12, a13, a14, a15, a16)) (H0 : w ≠ q → post 0 (nI N, pc, tc, cp, wh, vs, ce, a1, a2, a3, a4, a5, a6, a7, a8, a9, a10, a11, a12, a13, a14, a15, a16)) : wpX_decide post (nI N, pc, tc, cp, wh, vs, ce, a1, a2, a3, a4, a5, a6, a7, a8, a9, a10, a11, a12, a13, a14, a15, a16) (nI p) := by
  have kp : (nI p).toNatClampNeg = p := nI_clamp (by omega)
  have ip : vp_in (nI p) 10 := pk_in p 10 hp
  have x8 : a8 (nI p).toNatClampNeg = nI 2 := by rw [kp]; exact h8
  have x9 : a9 (nI p).toNatClampNeg = nI v := by rw [kp]; exact h9
  have x10 : a10 (nI p).toNatClampNeg = nI r := by rw [kp]; exact h10
  have x13 : a13 (a10 (nI p).toNatClampNeg).toNatClampNeg = nI q := by rw [x10, nI_clamp (show r < 2 ^ 31 by omega)]; exact h13
  have x14 : a14 (nI v).toNatClampNeg = nI w := by rw [nI_clamp (show v < 2 ^ 31 by omega)]; exact h14
  exact ⟨ip, nm_r x8 (br_f (by decide) ⟨ip, pk_in r 16 hr x10, nm_r x13 ⟨ip, nm_r x9 (br_t (by decide) ⟨pk_in v 3 hv, pk_eq w q H1 H0 x14⟩)⟩⟩)⟩
theorem pt_nt {post : St2 → Prop} {i m : Nat} (hi : i < 3) (h : a14 i = nI v ∨ (a14 i = -1 ∧ v = 0)) (hv : v < 20) (H : wX_note_4 post (nI N) pc tc cp wh vs ce a1 a2 a3 a4 a5 a6 a7 a8 a9 a10 a11 a12 a13 a14 a15 a16 n (nI (20 * m + v)) (nI (i + 1))) : wX_note_4 post (nI N) pc tc cp wh vs ce a1 a2 a3 a4 a5 a6 a7 a8 a9 a10 a11 a12 a13 a14 a15 a16 (n + 1) (nI m) (nI i) := by
  have ki : (nI i).toNatClampNeg = i := nI_clamp (by omega)
  have ii : vp_in (nI i) 3 := pk_in i 3 hi
  have e20 : (20 : Int32) * nI m = nI (20 * m) := pk_mul 20 m
  refine pk_le 3 i (fun z => absurd z (by omega)) (fun _ => ⟨ii, ?_⟩)
  rcases h with h | ⟨h, hv0⟩
  · have x : a14 (nI i).toNatClampNeg = nI v := by rw [ki]; exact h
    exact br_t (by rw [x]; exact nI_pos' (by omega)) ⟨ii, nm_r (show (20 : Int32) * nI m + a14 (nI i).toNatClampNeg = nI (20 * m + v) by rw [x, e20, nI_add]) (nm_r (nI_1 i) H)⟩
  · have x : a14 (nI i).toNatClampNeg = -1 := by rw [ki]; exact h
    exact br_f (by rw [x]; decide) (nm_r (show (20 : Int32) * nI m + 0 = nI (20 * m + v) by rw [e20, ← nI_0, nI_add, hv0]) (nm_r (nI_1 i) H))
theorem pt_nte {post : St2 → Prop} {m : Nat} (hm : m < 8000) (H : ∀ F, (∀ j, pt_bit F j = (pt_bit a16 j || decide (j = m))) → post (nI N, pc, tc, cp, wh, vs, ce, a1, a2, a3, a4, a5, a6, a7, a8, a9, a10, a11, a12, a13, a14, a15, F)) : wX_note_4 post (nI N) pc tc cp wh vs ce a1 a2 a3 a4 a5 a6 a7 a8 a9 a10 a11 a12 a13 a14 a15 a16 (n + 1) (nI m) (nI 3) := by
  have E : vp_updL a16 (nI m >>> ((6 : Int32) &&& 31)).toNatClampNeg ((a16 (nI m >>> ((6 : Int32) &&& 31)).toNatClampNeg) ||| ((1 : Int64) <<< ((nI m &&& 63).toInt64 &&& 63))) = vp_updL a16 (m / 64) (a16 (m / 64) ||| ((1 : Int64) <<< ((nI (m % 64)).toInt64 &&& 63))) := by
    rw [pt_ix hm, pt_a63 hm, nI_clamp (show m / 64 < 2 ^ 31 by omega)]
  have ii : vp_in (nI m >>> ((6 : Int32) &&& 31)) 125 := pk_in (m / 64) 125 (by omega) (pt_ix hm)
  exact pk_le 3 3 (fun _ => ⟨ii, ii, nm_r E (H _ (pt_wr hm))⟩) (fun z => absurd z (by omega))
theorem pt_yield {post : Int32 → St2 → Prop} {w0 w1 w2 M : Nat} (hp : p < 10) (h8 : a8 p = nI 4) (h0 : a14 0 = nI w0 ∨ (a14 0 = -1 ∧ w0 = 0)) (h1 : a14 1 = nI w1 ∨ (a14 1 = -1 ∧ w1 = 0)) (h2 : a14 2 = nI w2 ∨ (a14 2 = -1 ∧ w2 = 0)) (l0 : w0 < 20) (l1 : w1 < 20) (l2 : w2 < 20) (hM : M = 400 * w0 + 20 * w1 + w2) (H : ∀ F, (∀ j, pt_bit F j = (pt_bit a16 j || decide (j = M))) → post 0 (nI N, pc, tc, cp, wh, vs, ce, a1, a2, a3, a4, a5, a6, a7, a8, a9, a10, a11, a12, a13, a14, a15, F)) : wpX_decide post (nI N, pc, tc, cp, wh, vs, ce, a1, a2, a3, a4, a5, a6, a7, a8, a9, a10, a11, a12, a13, a14, a15, a16) (nI p) := by
  have x8 : a8 (nI p).toNatClampNeg = nI 4 := by rw [nI_clamp (show p < 2 ^ 31 by omega)]; exact h8
  have eM : 20 * (20 * (20 * 0 + w0) + w1) + w2 = M := by omega
  refine ⟨pk_in p 10 hp, nm_r x8 (br_t (by decide) ⟨4, ?_⟩)⟩
  refine pt_nt (i := 0) (m := 0) (v := w0) (by omega) h0 l0 ?_
  refine pt_nt (i := 1) (v := w1) (by omega) h1 l1 ?_
  refine pt_nt (i := 2) (v := w2) (by omega) h2 l2 ?_
  rw [eM]
  exact pt_nte (by omega) H
/-! back -/
theorem pt_bk_b {post : Int32 → St2 → Prop} (hp : p + 1 < 10) (hv : v < 3) (h8 : a8 (p + 1) = nI 1) (h9 : a9 (p + 1) = nI v) (H : wX_back_4 post (nI N) pc tc cp wh vs ce n (nI p) a1 a2 a3 a4 a5 a6 a7 a8 a9 a10 a11 a12 a13 (upd a14 v (-1)) a15 a16) : wX_back_4 post (nI N) pc tc cp wh vs ce (n + 1) (nI (p + 1)) a1 a2 a3 a4 a5 a6 a7 a8 a9 a10 a11 a12 a13 a14 a15 a16 := by
  have kp : (nI (p + 1)).toNatClampNeg = p + 1 := nI_clamp (by omega)
  have ip : vp_in (nI (p + 1)) 10 := pk_in (p + 1) 10 hp
  have x8 : a8 (nI (p + 1)).toNatClampNeg = nI 1 := by rw [kp]; exact h8
  have x9 : a9 (nI (p + 1)).toNatClampNeg = nI v := by rw [kp]; exact h9
  have E : upd a14 (a9 (nI (p + 1)).toNatClampNeg).toNatClampNeg (-1) = upd a14 v (-1) := by rw [x9, nI_clamp (show v < 2 ^ 31 by omega)]
  exact br_f (nI_pos (by omega)) ⟨ip, br_f (by rw [x8]; decide) ⟨ip, br_t x8 ⟨ip, pk_in v 3 hv x9, nm_r E (nm_r (pk_m1 p) H)⟩⟩⟩
theorem pt_bk_c {post : Int32 → St2 → Prop} (hp : p + 1 < 10) (h8 : a8 (p + 1) = nI 2) (H : wX_back_4 post (nI N) pc tc cp wh vs ce n (nI p) a1 a2 a3 a4 a5 a6 a7 a8 a9 a10 a11 a12 a13 a14 a15 a16) : wX_back_4 post (nI N) pc tc cp wh vs ce (n + 1) (nI (p + 1)) a1 a2 a3 a4 a5 a6 a7 a8 a9 a10 a11 a12 a13 a14 a15 a16 := by
  have kp : (nI (p + 1)).toNatClampNeg = p + 1 := nI_clamp (by omega)
  have ip : vp_in (nI (p + 1)) 10 := pk_in (p + 1) 10 hp
  have x8 : a8 (nI (p + 1)).toNatClampNeg = nI 2 := by rw [kp]; exact h8
  exact br_f (nI_pos (by omega)) ⟨ip, br_f (by rw [x8]; decide) ⟨ip, br_f (by rw [x8]; decide) (nm_r (pk_m1 p) H)⟩⟩
theorem pt_bk_t {post : Int32 → St2 → Prop} (hp : p < 10) (h8 : a8 p = nI 0) (H : post (nI p) (nI N, pc, tc, cp, wh, vs, ce, a1, a2, a3, a4, a5, a6, a7, a8, a9, a10, a11, a12, a13, a14, a15, a16)) : wX_back_4 post (nI N) pc tc cp wh vs ce (n + 1) (nI p) a1 a2 a3 a4 a5 a6 a7 a8 a9 a10 a11 a12 a13 a14 a15 a16 := by
  have kp : (nI p).toNatClampNeg = p := nI_clamp (by omega)
  have x8 : a8 (nI p).toNatClampNeg = nI 0 := by rw [kp]; exact h8
  exact br_f (nI_pos (by omega)) ⟨pk_in p 10 hp, br_t x8 H⟩
theorem pt_bk_0 {post : Int32 → St2 → Prop} (H : post (-1) (nI N, pc, tc, cp, wh, vs, ce, a1, a2, a3, a4, a5, a6, a7, a8, a9, a10, a11, a12, a13, a14, a15, a16)) : wpX_back post (nI N, pc, tc, cp, wh, vs, ce, a1, a2, a3, a4, a5, a6, a7, a8, a9, a10, a11, a12, a13, a14, a15, a16) (nI 0) :=
  nm_r (show nI 0 - 1 = -1 by decide) ⟨1, br_t (by decide) H⟩
/-! run's steps -/
theorem pt_fwd {post : St2 → Prop} {J : Int32 → Int32 → Int32 → Int32 → Int32 → Int32 → Int32 → Int32 → (Nat → Int32) → (Nat → Int32) → (Nat → Int32) → (Nat → Int32) → (Nat → Int32) → (Nat → Int32) → (Nat → Int32) → (Nat → Int32) → (Nat → Int32) → (Nat → Int32) → (Nat → Int32) → (Nat → Int32) → (Nat → Int32) → (Nat → Int32) → (Nat → Int32) → (Nat → Int64) → Prop} (hp : p + 1 < 10) (H : J (nI (p + 1)) (nI N) pc tc cp wh vs ce a1 a2 a3 a4 a5 a6 a7 a8 a9 a10 a11 a12 a13 a14 (upd a15 (p + 1) (-1)) a16) : wX_run_63 post J (nI p) 1 (nI N) pc tc cp wh vs ce a1 a2 a3 a4 a5 a6 a7 a8 a9 a10 a11 a12 a13 a14 a15 a16 :=
  br_f (by decide) (nm_r (nI_1 p) ⟨pk_in (p + 1) 10 hp, nm_r (by rw [nI_clamp (show p + 1 < 2 ^ 31 by omega)]) H⟩)
/-- run's beginning: a class in register 0, no variable bound -/
theorem pt_run0 {post : St2 → Prop} {l : Nat} (hl : l < 20) (H : ∀ b13 b14 b15 : Nat → Int32, b13 0 = nI l → b14 0 = -1 ∧ b14 1 = -1 ∧ b14 2 = -1 → b15 0 + 1 = nI 0 → ∃ n, wX_run_37 post n (nI 0) (nI N) pc tc cp wh vs ce a1 a2 a3 a4 a5 a6 a7 a8 a9 a10 a11 a12 b13 b14 b15 a16) : wpX_run post (nI N, pc, tc, cp, wh, vs, ce, a1, a2, a3, a4, a5, a6, a7, a8, a9, a10, a11, a12, a13, a14, a15, a16) (nI l) := by
  have E13 : upd a13 0 (nI l).toInt8.toInt32 = upd a13 0 (nI l) := by rw [pt_b8 l (by omega)]
  refine nm_r E13 ⟨4, ?_⟩
  refine br_f (by decide) ⟨pk_in 0 3 (by omega), nm_r (e' := upd a14 0 (-1)) rfl (nm_r (nI_1 0) ?_)⟩
  refine br_f (by decide) ⟨pk_in 1 3 (by omega), nm_r (e' := upd (upd a14 0 (-1)) 1 (-1)) rfl (nm_r (nI_1 1) ?_)⟩
  refine br_f (by decide) ⟨pk_in 2 3 (by omega), nm_r (e' := upd (upd (upd a14 0 (-1)) 1 (-1)) 2 (-1)) rfl (nm_r (nI_1 2) ?_)⟩
  refine br_t (by decide) (nm_e ?_)
  exact H _ _ _ pk_us ⟨rfl, rfl, rfl⟩ (by rw [pk_us]; decide)
end
end
section
section
variable {N l : Nat} {nc pc tc cp wh vs ce x2 : Int32} {a1 a2 a3 a4 a5 a6 a7 a8 a9 a10 a11 a12 a13 a14 a15 : Nat → Int32} {a16 : Nat → Int64} {sy lf rt ld : Nat → Nat}
def pt_A0 (sy ld : Nat → Nat) (l j : Nat) : Prop := ld j = l ∧ sy j = 21
def pt_A2 (sy rt ld : Nat → Nat) (n j : Nat) : Prop := ld j = ld (rt n) ∧ sy j = 20
def pt_B2 (lf ld : Nat → Nat) (n j m : Nat) : Prop := m = 400 * ld (lf n) + 20 * ld (lf j)
def pt_E1 (N : Nat) (sy lf rt ld : Nat → Nat) (n m : Nat) : Prop := pt_D (pt_A2 sy rt ld n) (pt_B2 lf ld n) N m
def pt_E2 (lf rt ld : Nat → Nat) (n m : Nat) : Prop := ld (lf n) = ld (rt n) ∧ m = ld (lf n)
/-- what a run of the first code finds in the class l -/
def pt_R1 (N : Nat) (sy lf rt ld : Nat → Nat) (l m : Nat) : Prop := pt_D (pt_A0 sy ld l) (pt_E1 N sy lf rt ld) N m
/-- what a run of the second code finds in the class l -/
def pt_R2 (N : Nat) (sy lf rt ld : Nat → Nat) (l m : Nat) : Prop := pt_D (pt_A0 sy ld l) (pt_E2 lf rt ld) N m
theorem pt_run1 {post : St2 → Prop} {Q : Nat → Prop} (M : pt_M N sy lf rt ld a1 a2 a3 a4) (C : pt_C1 a8 a9 a10 a11) (hl : l < 20) (H : ∀ b13 b14 b15 b16, pt_B b16 (fun m => Q m ∨ pt_R1 N sy lf rt ld l m) → post (nI N, pc, tc, cp, wh, vs, ce, a1, a2, a3, a4, a5, a6, a7, a8, a9, a10, a11, a12, b13, b14, b15, b16)) : ∀ fuel : Nat,
    (∀ b13 b14 b15 b16, 0 < fuel → pt_B b16 (fun m => Q m ∨ pt_R1 N sy lf rt ld l m) → wX_run_37 post fuel (-1) (nI N) pc tc cp wh vs ce a1 a2 a3 a4 a5 a6 a7 a8 a9 a10 a11 a12 b13 b14 b15 b16) ∧
    (∀ t b13 b14 b15 b16, (N - t) * 1000 + 1 < fuel → t ≤ N → b13 0 = nI l → b14 0 = -1 ∧ b14 1 = -1 ∧ b14 2 = -1 → b15 0 + 1 = nI t → pt_B b16 (fun m => Q m ∨ pt_D (pt_A0 sy ld l) (pt_E1 N sy lf rt ld) t m) → wX_run_37 post fuel (nI 0) (nI N) pc tc cp wh vs ce a1 a2 a3 a4 a5 a6 a7 a8 a9 a10 a11 a12 b13 b14 b15 b16) ∧
    (∀ n b13 b14 b15 b16, (N - n) * 1000 < fuel → n < N → pt_A0 sy ld l n → b13 0 = nI l → b13 1 = nI (ld (lf n)) → b13 2 = nI (ld (rt n)) → b14 0 = -1 ∧ b14 1 = -1 ∧ b14 2 = -1 → b15 0 = nI n → pt_B b16 (fun m => Q m ∨ pt_D (pt_A0 sy ld l) (pt_E1 N sy lf rt ld) n m) → wX_run_37 post fuel (nI 1) (nI N) pc tc cp wh vs ce a1 a2 a3 a4 a5 a6 a7 a8 a9 a10 a11 a12 b13 b14 b15 b16) ∧
    (∀ n t b13 b14 b15 b16, (N - n - 1) * 1000 + (N - t) * 10 + 5 < fuel → n < N → pt_A0 sy ld l n → t ≤ N → b13 0 = nI l → b13 2 = nI (ld (rt n)) → b14 0 = nI (ld (lf n)) ∧ b14 1 = -1 ∧ b14 2 = -1 → b15 0 = nI n → b15 2 + 1 = nI t → pt_B b16 (fun m => Q m ∨ pt_D (pt_A0 sy ld l) (pt_E1 N sy lf rt ld) n m ∨ pt_D (pt_A2 sy rt ld n) (pt_B2 lf ld n) t m) → wX_run_37 post fuel (nI 2) (nI N) pc tc cp wh vs ce a1 a2 a3 a4 a5 a6 a7 a8 a9 a10 a11 a12 b13 b14 b15 b16) ∧
    (∀ n j b13 b14 b15 b16, (N - n - 1) * 1000 + (N - j) * 10 + 4 < fuel → n < N → pt_A0 sy ld l n → j < N → pt_A2 sy rt ld n j → b13 0 = nI l → b13 2 = nI (ld (rt n)) → b13 3 = nI (ld (lf j)) → b14 0 = nI (ld (lf n)) ∧ b14 1 = -1 ∧ b14 2 = -1 → b15 0 = nI n → b15 2 = nI j → pt_B b16 (fun m => Q m ∨ pt_D (pt_A0 sy ld l) (pt_E1 N sy lf rt ld) n m ∨ pt_D (pt_A2 sy rt ld n) (pt_B2 lf ld n) j m) → wX_run_37 post fuel (nI 3) (nI N) pc tc cp wh vs ce a1 a2 a3 a4 a5 a6 a7 a8 a9 a10 a11 a12 b13 b14 b15 b16) ∧
    (∀ n j b13 b14 b15 b16, (N - n - 1) * 1000 + (N - j) * 10 + 3 < fuel → n < N → pt_A0 sy ld l n → j < N → pt_A2 sy rt ld n j → b13 0 = nI l → b13 2 = nI (ld (rt n)) → b14 0 = nI (ld (lf n)) ∧ b14 1 = nI (ld (lf j)) ∧ b14 2 = -1 → b15 0 = nI n → b15 2 = nI j → pt_B b16 (fun m => Q m ∨ pt_D (pt_A0 sy ld l) (pt_E1 N sy lf rt ld) n m ∨ pt_D (pt_A2 sy rt ld n) (pt_B2 lf ld n) j m) → wX_run_37 post fuel (nI 4) (nI N) pc tc cp wh vs ce a1 a2 a3 a4 a5 a6 a7 a8 a9 a10 a11 a12 b13 b14 b15 b16) := by
  obtain ⟨⟨o0, o1, o2, o3, o4⟩, ⟨g0, g1, g2, g3⟩, ⟨r0, r1, r2, r3⟩, s0, s2⟩ := C
  have hN := M.1
  have y0 : a8 (nI 0).toNatClampNeg = 0 := o0
  have y1 : ¬ a8 (nI 1).toNatClampNeg = 0 := by rw [nI_clamp (show 1 < 2 ^ 31 by omega), o1]; decide
  have y2 : a8 (nI 2).toNatClampNeg = 0 := o2
  have y3 : ¬ a8 (nI 3).toNatClampNeg = 0 := by rw [nI_clamp (show 3 < 2 ^ 31 by omega), o3]; decide
  have y4 : ¬ a8 (nI 4).toNatClampNeg = 0 := by rw [nI_clamp (show 4 < 2 ^ 31 by omega), o4]; decide
  intro fuel
  induction fuel with
  | zero => exact ⟨fun _ _ _ _ h => absurd h (Nat.lt_irrefl 0), fun _ _ _ _ _ h => absurd h (Nat.not_lt_zero _), fun _ _ _ _ _ h => absurd h (Nat.not_lt_zero _), fun _ _ _ _ _ _ h => absurd h (Nat.not_lt_zero _), fun _ _ _ _ _ _ h => absurd h (Nat.not_lt_zero _), fun _ _ _ _ _ _ h => absurd h (Nat.not_lt_zero _)⟩
  | succ f ih =>
    obtain ⟨iE, i0, i1, i2, i3, i4⟩ := ih
    refine ⟨?_, ?_, ?_, ?_, ?_, ?_⟩
    · intro b13 b14 b15 b16 _ hB
      exact br_t (by decide) (H _ _ _ _ hB)
    · intro t b13 b14 b15 b16 hf ht h13 h14 h15 hB
      refine br_f (by decide) ⟨pk_in 0 10 (by omega), br_t y0 (pt_take M (p := 0) (r := 0) (s := 21) (q := l) (g := 1) (t := t) (by omega) (by omega) (by omega) (by omega) hl ht g0 r0 s0 h13 h15 (fun hno => ?_) (fun n h1 h2 h3 h4 h5 c13 k1 k2 k3 => ?_))⟩
      · have hno' : ∀ j, t ≤ j → j < N → ¬ pt_A0 sy ld l j := hno
        refine br_t rfl (pt_bk_0 ?_)
        exact iE _ _ _ _ (by omega) (pt_B_iff hB (fun m => or_congr Iff.rfl (pt_Dskip ht hno').symm))
      · have h3' : ∀ j, t ≤ j → j < n → ¬ pt_A0 sy ld l j := h3
        have q13 : c13 0 = nI l := by rw [k3 0 (by omega) (by omega)]; exact h13
        have q15 : upd (upd b15 0 (nI n)) (0 + 1) (-1) 0 = nI n := by rw [pk_un (by omega), pk_us]
        refine pt_fwd (by omega) ?_
        exact i1 n _ _ _ _ (by omega) h2 ⟨h4, h5⟩ q13 k1 (k2 rfl) h14 q15 (pt_B_iff hB (fun m => or_congr Iff.rfl (pt_Dskip h1 h3').symm))
    · intro n b13 b14 b15 b16 hf hn hA h0 h1 h2 h14 h15 hB
      obtain ⟨w0, w1, w2⟩ := h14
      have hlf := (M.2 n hn).2.2.1
      have hld := (M.2 (lf n) hlf).2.2.2.2
      refine br_f (by decide) ⟨pk_in 1 10 (by omega), br_f y1 (pt_bind (p := 1) (r := 1) (q := ld (lf n)) (v := 0) (by omega) (by omega) (by omega) (by omega) o1 g1 r1 h1 (pt_fwd (by omega) ?_))⟩
      have q0 : upd b14 0 (nI (ld (lf n))) 1 = -1 := by rw [pk_un (by omega)]; exact w1
      have q1 : upd b14 0 (nI (ld (lf n))) 2 = -1 := by rw [pk_un (by omega)]; exact w2
      have q2 : upd b15 (1 + 1) (-1) 0 = nI n := by rw [pk_un (by omega)]; exact h15
      have q3 : upd b15 (1 + 1) (-1) 2 + 1 = nI 0 := by rw [show upd b15 (1 + 1) (-1) 2 = -1 from pk_us]; decide
      exact i2 n 0 _ _ _ _ (by omega) hn hA (Nat.zero_le N) h0 h2 ⟨pk_us, q0, q1⟩ q2 q3 (pt_B_iff hB (fun m => or_congr Iff.rfl ⟨Or.inl, fun h => h.elim id (fun z => absurd z pt_D0)⟩))
    · intro n t b13 b14 b15 b16 hf hn hA ht h0 h2 h14 h15 h15' hB
      obtain ⟨w0, w1, w2⟩ := h14
      have hrt := (M.2 n hn).2.2.2.1
      have hld := (M.2 (rt n) hrt).2.2.2.2
      refine br_f (by decide) ⟨pk_in 2 10 (by omega), br_t y2 (pt_take M (p := 2) (r := 2) (s := 20) (q := ld (rt n)) (g := 3) (t := t) (by omega) (by omega) (by omega) (by omega) (by omega) ht g2 r2 s2 h2 h15' (fun hno => ?_) (fun j h1 h2' h3 h4 h5 c13 k1 k2 k3 => ?_))⟩
      · have hno' : ∀ j, t ≤ j → j < N → ¬ pt_A2 sy rt ld n j := hno
        refine br_t rfl (nm_r (nI_pred 1) ⟨2, ?_⟩)
        refine pt_bk_b (p := 0) (v := 0) (by omega) (by omega) o1 g1 ?_
        refine pt_bk_t (p := 0) (by omega) o0 ?_
        have q0 : upd b14 0 (-1) 1 = -1 := by rw [pk_un (by omega)]; exact w1
        have q1 : upd b14 0 (-1) 2 = -1 := by rw [pk_un (by omega)]; exact w2
        have q2 : b15 0 + 1 = nI (n + 1) := by rw [h15, nI_1]
        exact i0 (n + 1) _ _ _ _ (by omega) (by omega) h0 ⟨pk_us, q0, q1⟩ q2 (pt_B_iff hB (fun m => or_congr Iff.rfl ((or_congr Iff.rfl (pt_Dskip ht hno').symm).trans (pt_Dadd hA).symm)))
      · have h3' : ∀ i, t ≤ i → i < j → ¬ pt_A2 sy rt ld n i := h3
        have q0 : c13 0 = nI l := by rw [k3 0 (by omega) (by omega)]; exact h0
        have q1 : c13 2 = nI (ld (rt n)) := by rw [k3 2 (by omega) (by omega)]; exact h2
        have q2 : upd (upd b15 2 (nI j)) (2 + 1) (-1) 0 = nI n := by rw [pk_un (by omega), pk_un (by omega)]; exact h15
        have q3 : upd (upd b15 2 (nI j)) (2 + 1) (-1) 2 = nI j := by rw [pk_un (by omega), pk_us]
        refine pt_fwd (by omega) ?_
        exact i3 n j _ _ _ _ (by omega) hn hA h2' ⟨h4, h5⟩ q0 q1 k1 ⟨w0, w1, w2⟩ q2 q3 (pt_B_iff hB (fun m => or_congr Iff.rfl (or_congr Iff.rfl (pt_Dskip h1 h3').symm)))
    · intro n j b13 b14 b15 b16 hf hn hA hj hA2 h0 h2 h3 h14 h15 h15' hB
      obtain ⟨w0, w1, w2⟩ := h14
      have hlf := (M.2 j hj).2.2.1
      have hld := (M.2 (lf j) hlf).2.2.2.2
      refine br_f (by decide) ⟨pk_in 3 10 (by omega), br_f y3 (pt_bind (p := 3) (r := 3) (q := ld (lf j)) (v := 1) (by omega) (by omega) (by omega) (by omega) o3 g3 r3 h3 (pt_fwd (by omega) ?_))⟩
      have q0 : upd b14 1 (nI (ld (lf j))) 0 = nI (ld (lf n)) := by rw [pk_un (by omega)]; exact w0
      have q1 : upd b14 1 (nI (ld (lf j))) 2 = -1 := by rw [pk_un (by omega)]; exact w2
      have q2 : upd b15 (3 + 1) (-1) 0 = nI n := by rw [pk_un (by omega)]; exact h15
      have q3 : upd b15 (3 + 1) (-1) 2 = nI j := by rw [pk_un (by omega)]; exact h15'
      exact i4 n j _ _ _ _ (by omega) hn hA hj hA2 h0 h2 ⟨q0, pk_us, q1⟩ q2 q3 hB
    · intro n j b13 b14 b15 b16 hf hn hA hj hA2 h0 h2 h14 h15 h15' hB
      obtain ⟨w0, w1, w2⟩ := h14
      have hlf := (M.2 n hn).2.2.1
      have hld := (M.2 (lf n) hlf).2.2.2.2
      have hlf' := (M.2 j hj).2.2.1
      have hld' := (M.2 (lf j) hlf').2.2.2.2
      refine br_f (by decide) ⟨pk_in 4 10 (by omega), br_f y4 (pt_yield (p := 4) (w0 := ld (lf n)) (w1 := ld (lf j)) (w2 := 0) (M := 400 * ld (lf n) + 20 * ld (lf j)) (by omega) o4 (Or.inl w0) (Or.inl w1) (Or.inr ⟨w2, rfl⟩) (by omega) (by omega) (by omega) (by omega) (fun F hF => ?_))⟩
      refine br_t rfl (nm_r (nI_pred 3) ⟨2, ?_⟩)
      refine pt_bk_b (p := 2) (v := 1) (by omega) (by omega) o3 g3 ?_
      refine pt_bk_t (p := 2) (by omega) o2 ?_
      have q0 : upd b14 1 (-1) 0 = nI (ld (lf n)) := by rw [pk_un (by omega)]; exact w0
      have q1 : upd b14 1 (-1) 2 = -1 := by rw [pk_un (by omega)]; exact w2
      have q2 : b15 2 + 1 = nI (j + 1) := by rw [h15', nI_1]
      refine i2 n (j + 1) _ _ _ _ (by omega) hn hA (by omega) h0 h2 ⟨q0, pk_us, q1⟩ h15 q2 (pt_B_iff (pt_B_add hB hF) (fun m => ?_))
      rw [pt_Dadd hA2, or_assoc, or_assoc]
      exact Iff.rfl
theorem pt_run2 {post : St2 → Prop} {Q : Nat → Prop} (M : pt_M N sy lf rt ld a1 a2 a3 a4) (C : pt_C2 a8 a9 a10 a11) (hl : l < 20) (H : ∀ b13 b14 b15 b16, pt_B b16 (fun m => Q m ∨ pt_R2 N sy lf rt ld l m) → post (nI N, pc, tc, cp, wh, vs, ce, a1, a2, a3, a4, a5, a6, a7, a8, a9, a10, a11, a12, b13, b14, b15, b16)) : ∀ fuel : Nat,
    (∀ b13 b14 b15 b16, 0 < fuel → pt_B b16 (fun m => Q m ∨ pt_R2 N sy lf rt ld l m) → wX_run_37 post fuel (-1) (nI N) pc tc cp wh vs ce a1 a2 a3 a4 a5 a6 a7 a8 a9 a10 a11 a12 b13 b14 b15 b16) ∧
    (∀ t b13 b14 b15 b16, (N - t) * 10 + 1 < fuel → t ≤ N → b13 0 = nI l → b14 0 = -1 ∧ b14 1 = -1 ∧ b14 2 = -1 → b15 0 + 1 = nI t → pt_B b16 (fun m => Q m ∨ pt_D (pt_A0 sy ld l) (pt_E2 lf rt ld) t m) → wX_run_37 post fuel (nI 0) (nI N) pc tc cp wh vs ce a1 a2 a3 a4 a5 a6 a7 a8 a9 a10 a11 a12 b13 b14 b15 b16) ∧
    (∀ n b13 b14 b15 b16, (N - n) * 10 < fuel → n < N → pt_A0 sy ld l n → b13 0 = nI l → b13 1 = nI (ld (lf n)) → b13 2 = nI (ld (rt n)) → b14 0 = -1 ∧ b14 1 = -1 ∧ b14 2 = -1 → b15 0 = nI n → pt_B b16 (fun m => Q m ∨ pt_D (pt_A0 sy ld l) (pt_E2 lf rt ld) n m) → wX_run_37 post fuel (nI 1) (nI N) pc tc cp wh vs ce a1 a2 a3 a4 a5 a6 a7 a8 a9 a10 a11 a12 b13 b14 b15 b16) ∧
    (∀ n b13 b14 b15 b16, (N - n - 1) * 10 + 8 < fuel → n < N → pt_A0 sy ld l n → b13 0 = nI l → b13 2 = nI (ld (rt n)) → b14 0 = -1 ∧ b14 1 = -1 ∧ b14 2 = nI (ld (lf n)) → b15 0 = nI n → pt_B b16 (fun m => Q m ∨ pt_D (pt_A0 sy ld l) (pt_E2 lf rt ld) n m) → wX_run_37 post fuel (nI 2) (nI N) pc tc cp wh vs ce a1 a2 a3 a4 a5 a6 a7 a8 a9 a10 a11 a12 b13 b14 b15 b16) ∧
    (∀ n b13 b14 b15 b16, (N - n - 1) * 10 + 6 < fuel → n < N → pt_A0 sy ld l n → ld (lf n) = ld (rt n) → b13 0 = nI l → b14 0 = -1 ∧ b14 1 = -1 ∧ b14 2 = nI (ld (lf n)) → b15 0 = nI n → pt_B b16 (fun m => Q m ∨ pt_D (pt_A0 sy ld l) (pt_E2 lf rt ld) n m) → wX_run_37 post fuel (nI 3) (nI N) pc tc cp wh vs ce a1 a2 a3 a4 a5 a6 a7 a8 a9 a10 a11 a12 b13 b14 b15 b16) := by
  obtain ⟨⟨o0, o1, o2, o3⟩, ⟨g0, g1, g2⟩, ⟨r0, r1, r2⟩, s0⟩ := C
  have hN := M.1
  have y0 : a8 (nI 0).toNatClampNeg = 0 := o0
  have y1 : ¬ a8 (nI 1).toNatClampNeg = 0 := by rw [nI_clamp (show 1 < 2 ^ 31 by omega), o1]; decide
  have y2 : ¬ a8 (nI 2).toNatClampNeg = 0 := by rw [nI_clamp (show 2 < 2 ^ 31 by omega), o2]; decide
  have y3 : ¬ a8 (nI 3).toNatClampNeg = 0 := by rw [nI_clamp (show 3 < 2 ^ 31 by omega), o3]; decide
  intro fuel
  induction fuel with
  | zero => exact ⟨fun _ _ _ _ h => absurd h (Nat.lt_irrefl 0), fun _ _ _ _ _ h => absurd h (Nat.not_lt_zero _), fun _ _ _ _ _ h => absurd h (Nat.not_lt_zero _), fun _ _ _ _ _ h => absurd h (Nat.not_lt_zero _), fun _ _ _ _ _ h => absurd h (Nat.not_lt_zero _)⟩
  | succ f ih =>
    obtain ⟨iE, i0, i1, i2, i3⟩ := ih
    refine ⟨?_, ?_, ?_, ?_, ?_⟩
    · intro b13 b14 b15 b16 _ hB
      exact br_t (by decide) (H _ _ _ _ hB)
    · intro t b13 b14 b15 b16 hf ht h13 h14 h15 hB
      refine br_f (by decide) ⟨pk_in 0 10 (by omega), br_t y0 (pt_take M (p := 0) (r := 0) (s := 21) (q := l) (g := 1) (t := t) (by omega) (by omega) (by omega) (by omega) hl ht g0 r0 s0 h13 h15 (fun hno => ?_) (fun n h1 h2 h3 h4 h5 c13 k1 k2 k3 => ?_))⟩
      · have hno' : ∀ j, t ≤ j → j < N → ¬ pt_A0 sy ld l j := hno
        refine br_t rfl (pt_bk_0 ?_)
        exact iE _ _ _ _ (by omega) (pt_B_iff hB (fun m => or_congr Iff.rfl (pt_Dskip ht hno').symm))
      · have h3' : ∀ j, t ≤ j → j < n → ¬ pt_A0 sy ld l j := h3
        have q13 : c13 0 = nI l := by rw [k3 0 (by omega) (by omega)]; exact h13
        have q15 : upd (upd b15 0 (nI n)) (0 + 1) (-1) 0 = nI n := by rw [pk_un (by omega), pk_us]
        refine pt_fwd (by omega) ?_
        exact i1 n _ _ _ _ (by omega) h2 ⟨h4, h5⟩ q13 k1 (k2 rfl) h14 q15 (pt_B_iff hB (fun m => or_congr Iff.rfl (pt_Dskip h1 h3').symm))
    · intro n b13 b14 b15 b16 hf hn hA h0 h1 h2 h14 h15 hB
      obtain ⟨w0, w1, w2⟩ := h14
      have hlf := (M.2 n hn).2.2.1
      have hld := (M.2 (lf n) hlf).2.2.2.2
      refine br_f (by decide) ⟨pk_in 1 10 (by omega), br_f y1 (pt_bind (p := 1) (r := 1) (q := ld (lf n)) (v := 2) (by omega) (by omega) (by omega) (by omega) o1 g1 r1 h1 (pt_fwd (by omega) ?_))⟩
      have q0 : upd b14 2 (nI (ld (lf n))) 0 = -1 := by rw [pk_un (by omega)]; exact w0
      have q1 : upd b14 2 (nI (ld (lf n))) 1 = -1 := by rw [pk_un (by omega)]; exact w1
      have q2 : upd b15 (1 + 1) (-1) 0 = nI n := by rw [pk_un (by omega)]; exact h15
      exact i2 n _ _ _ _ (by omega) hn hA h0 h2 ⟨q0, q1, pk_us⟩ q2 hB
    · intro n b13 b14 b15 b16 hf hn hA h0 h2 h14 h15 hB
      obtain ⟨w0, w1, w2⟩ := h14
      have hlf := (M.2 n hn).2.2.1
      have hld := (M.2 (lf n) hlf).2.2.2.2
      have hrt := (M.2 n hn).2.2.2.1
      have hld' := (M.2 (rt n) hrt).2.2.2.2
      refine br_f (by decide) ⟨pk_in 2 10 (by omega), br_f y2 (pt_cmp (p := 2) (r := 2) (q := ld (rt n)) (w := ld (lf n)) (v := 2) (by omega) (by omega) (by omega) (by omega) (by omega) o2 g2 r2 h2 w2 (fun e => ?_) (fun e => ?_))⟩
      · have q2 : upd b15 (2 + 1) (-1) 0 = nI n := by rw [pk_un (by omega)]; exact h15
        refine pt_fwd (by omega) ?_
        exact i3 n _ _ _ _ (by omega) hn hA e h0 ⟨w0, w1, w2⟩ q2 hB
      · refine br_t rfl (nm_r (nI_pred 1) ⟨2, ?_⟩)
        refine pt_bk_b (p := 0) (v := 2) (by omega) (by omega) o1 g1 ?_
        refine pt_bk_t (p := 0) (by omega) o0 ?_
        have q0 : upd b14 2 (-1) 0 = -1 := by rw [pk_un (by omega)]; exact w0
        have q1 : upd b14 2 (-1) 1 = -1 := by rw [pk_un (by omega)]; exact w1
        have q2 : b15 0 + 1 = nI (n + 1) := by rw [h15, nI_1]
        refine i0 (n + 1) _ _ _ _ (by omega) (by omega) h0 ⟨q0, q1, pk_us⟩ q2 (pt_B_iff hB (fun m => ?_))
        rw [pt_Dadd hA]
        exact or_congr Iff.rfl ⟨Or.inl, fun h => h.elim id (fun z => absurd z.1 e)⟩
    · intro n b13 b14 b15 b16 hf hn hA he h0 h14 h15 hB
      obtain ⟨w0, w1, w2⟩ := h14
      have hlf := (M.2 n hn).2.2.1
      have hld := (M.2 (lf n) hlf).2.2.2.2
      refine br_f (by decide) ⟨pk_in 3 10 (by omega), br_f y3 (pt_yield (p := 3) (w0 := 0) (w1 := 0) (w2 := ld (lf n)) (M := ld (lf n)) (by omega) o3 (Or.inr ⟨w0, rfl⟩) (Or.inr ⟨w1, rfl⟩) (Or.inl w2) (by omega) (by omega) (by omega) (by omega) (fun F hF => ?_))⟩
      refine br_t rfl (nm_r (nI_pred 2) ⟨3, ?_⟩)
      refine pt_bk_c (p := 1) (by omega) o2 ?_
      refine pt_bk_b (p := 0) (v := 2) (by omega) (by omega) o1 g1 ?_
      refine pt_bk_t (p := 0) (by omega) o0 ?_
      have q0 : upd b14 2 (-1) 0 = -1 := by rw [pk_un (by omega)]; exact w0
      have q1 : upd b14 2 (-1) 1 = -1 := by rw [pk_un (by omega)]; exact w1
      have q2 : b15 0 + 1 = nI (n + 1) := by rw [h15, nI_1]
      refine i0 (n + 1) _ _ _ _ (by omega) (by omega) h0 ⟨q0, q1, pk_us⟩ q2 (pt_B_iff (pt_B_add hB hF) (fun m => ?_))
      rw [pt_Dadd hA, or_assoc]
      exact or_congr Iff.rfl (or_congr Iff.rfl ⟨fun h => ⟨he, h⟩, fun h => h.2⟩)
/-- a run on a leader adds what R says -/
def pt_Run (N : Nat) (pc tc cp wh vs ce : Int32) (a1 a2 a3 a4 a5 a6 a7 a8 a9 a10 a11 a12 : Nat → Int32) (ld : Nat → Nat) (R : Nat → Nat → Prop) : Prop :=
  ∀ l, l < N → ld l = l → ∀ (post : St2 → Prop) (Q : Nat → Prop) (a13 a14 a15 : Nat → Int32) (a16 : Nat → Int64), pt_B a16 Q → (∀ (b13 b14 b15 : Nat → Int32) (b16 : Nat → Int64), pt_B b16 (fun m => Q m ∨ R l m) → post (nI N, pc, tc, cp, wh, vs, ce, a1, a2, a3, a4, a5, a6, a7, a8, a9, a10, a11, a12, b13, b14, b15, b16)) → wpX_run post (nI N, pc, tc, cp, wh, vs, ce, a1, a2, a3, a4, a5, a6, a7, a8, a9, a10, a11, a12, a13, a14, a15, a16) (nI l)
theorem pt_Run1 (M : pt_M N sy lf rt ld a1 a2 a3 a4) (C : pt_C1 a8 a9 a10 a11) : pt_Run N pc tc cp wh vs ce a1 a2 a3 a4 a5 a6 a7 a8 a9 a10 a11 a12 ld (pt_R1 N sy lf rt ld) := by
  intro l hl _ post Q a13 a14 a15 a16 hB H
  have hN := M.1
  refine pt_run0 (by omega) (fun b13 b14 b15 h13 h14 h15 => ⟨N * 1000 + 3, ?_⟩)
  exact (pt_run1 M C (by omega) H (N * 1000 + 3)).2.1 0 b13 b14 b15 a16 (by omega) (Nat.zero_le N) h13 h14 h15 (pt_B_iff hB (fun m => ⟨Or.inl, fun h => h.elim id (fun z => absurd z pt_D0)⟩))
theorem pt_Run2 (M : pt_M N sy lf rt ld a1 a2 a3 a4) (C : pt_C2 a8 a9 a10 a11) : pt_Run N pc tc cp wh vs ce a1 a2 a3 a4 a5 a6 a7 a8 a9 a10 a11 a12 ld (pt_R2 N sy lf rt ld) := by
  intro l hl _ post Q a13 a14 a15 a16 hB H
  have hN := M.1
  refine pt_run0 (by omega) (fun b13 b14 b15 h13 h14 h15 => ⟨N * 10 + 3, ?_⟩)
  exact (pt_run2 M C (by omega) H (N * 10 + 3)).2.1 0 b13 b14 b15 a16 (by omega) (Nat.zero_le N) h13 h14 h15 (pt_B_iff hB (fun m => ⟨Or.inl, fun h => h.elim id (fun z => absurd z pt_D0)⟩))
end
end
section
section
variable {N n k v X i : Nat} {nc pc tc cp wh vs ce x2 : Int32} {a1 a2 a3 a4 a5 a6 a7 a8 a9 a10 a11 a12 a13 a14 a15 : Nat → Int32} {a16 : Nat → Int64} {sy lf rt ld : Nat → Nat} {R : Nat → Nat → Prop} {P : Nat → Bool}
variable {v0 v1 v2 v3 v4 v5 v6 : Int32} {c1 c2 c3 c4 c5 c6 c7 c8 c9 c10 c11 c12 c13 c14 c15 : Nat → Int32} {c16 : Nat → Int64} {C : (Nat → Int32) → (Nat → Int32) → (Nat → Int32) → (Nat → Int32) → Prop}
theorem pt_clearF {post : St2 → Prop} (H : ∀ F, (∀ j, j < 125 → F j = 0) → post (nI N, pc, tc, cp, wh, vs, ce, a1, a2, a3, a4, a5, a6, a7, a8, a9, a10, a11, a12, a13, a14, a15, F)) : wpX_clearFound post (nI N, pc, tc, cp, wh, vs, ce, a1, a2, a3, a4, a5, a6, a7, a8, a9, a10, a11, a12, a13, a14, a15, a16) :=
  pk_loop (fun n i s => wX_clearFound_2 post (nI N) pc tc cp wh vs ce n (nI i) a1 a2 a3 a4 a5 a6 a7 a8 a9 a10 a11 a12 a13 a14 a15 s) (fun i s => ∀ j, j < i → s j = (0 : Int64)) 125 0 a16 (by omega) (fun j h => absurd h (Nat.not_lt_zero j))
    (fun n s h => pk_le 125 125 (fun _ => H s h) (fun z => absurd z (by omega)))
    (fun n i s hi h hw => by
      have ki : (nI i).toNatClampNeg = i := nI_clamp (by omega)
      refine pk_le 125 i (fun z => absurd z (by omega)) (fun _ => ⟨pk_in i 125 hi, nm_r (show vp_updL s (nI i).toNatClampNeg 0 = vp_updL s i 0 by rw [ki]) (nm_r (nI_1 i) (hw _ (fun j hj => ?_)))⟩)
      by_cases e : j = i
      · rw [e, pk_uLs]
      · rw [pk_uLn e]
        exact h j (by omega))
theorem pt_runAll {post : St2 → Prop} (hN : N ≤ 20) (h4 : ∀ n, n < N → a4 n = nI (ld n) ∧ ld n < N) (hR : pt_Run N pc tc cp wh vs ce a1 a2 a3 a4 a5 a6 a7 a8 a9 a10 a11 a12 ld R) (H : ∀ b13 b14 b15 b16, pt_B b16 (pt_D (fun l => ld l = l) R N) → post (nI N, pc, tc, cp, wh, vs, ce, a1, a2, a3, a4, a5, a6, a7, a8, a9, a10, a11, a12, b13, b14, b15, b16)) : wpX_runAll post (nI N, pc, tc, cp, wh, vs, ce, a1, a2, a3, a4, a5, a6, a7, a8, a9, a10, a11, a12, a13, a14, a15, a16) := by
  unfold wpX_runAll
  refine pt_clearF (fun F hF => ?_)
  refine pk_loop (σ := (Nat → Int32) × (Nat → Int32) × (Nat → Int32) × (Nat → Int64)) (fun n i s => wX_runAll_6 post n (nI i) (nI N) pc tc cp wh vs ce a1 a2 a3 a4 a5 a6 a7 a8 a9 a10 a11 a12 s.1 s.2.1 s.2.2.1 s.2.2.2) (fun i s => pt_B s.2.2.2 (pt_D (fun l => ld l = l) R i)) N 0 (a13, a14, a15, F) (Nat.zero_le N) (pt_B_iff (pt_B_0 hF) (fun m => ⟨False.elim, fun z => absurd z pt_D0⟩)) (fun n s h => pk_le N N (fun _ => H _ _ _ _ h) (fun z => absurd z (by omega))) (fun n i s hi h hw => ?_)
  obtain ⟨s13, s14, s15, s16⟩ := s
  obtain ⟨m4, m8⟩ := h4 i hi
  have y4 : a4 (nI i).toNatClampNeg = nI (ld i) := by rw [nI_clamp (show i < 2 ^ 31 by omega)]; exact m4
  refine pk_le N i (fun z => absurd z (by omega)) (fun _ => ⟨pk_in i 20 (by omega), pk_eq (ld i) i (fun e => ?_) (fun e => ?_) y4⟩)
  · exact hR i hi e _ _ _ _ _ _ h (fun b13 b14 b15 b16 hb => nm_r (nI_1 i) (hw (b13, b14, b15, b16) (pt_B_iff hb (fun m => (pt_Dadd (A := fun l => ld l = l) e).symm))))
  · exact nm_r (nI_1 i) (hw (s13, s14, s15, s16) (pt_B_iff h (fun m => (pt_Dnot (A := fun l => ld l = l) e).symm)))
theorem pt_found {post : Int32 → Prop} (H : post (nI (pt_cnt (pt_bit a16) 8000))) : wpX_foundCount post (nI N, pc, tc, cp, wh, vs, ce, a1, a2, a3, a4, a5, a6, a7, a8, a9, a10, a11, a12, a13, a14, a15, a16) :=
  pk_loop (σ := Unit) (fun n i _ => wX_foundCount_4 post (nI N) pc tc cp wh vs ce a1 a2 a3 a4 a5 a6 a7 a8 a9 a10 a11 a12 a13 a14 a15 a16 n (nI (pt_cnt (pt_bit a16) i)) (nI i)) (fun _ _ => True) 8000 0 () (by omega) trivial
    (fun n _ _ => pk_le 8000 8000 (fun _ => H) (fun z => absurd z (by omega)))
    (fun n i _ hi _ hw => by
      have e : nI (pt_cnt (pt_bit a16) i) + ((((a16 (nI i >>> ((6 : Int32) &&& 31)).toNatClampNeg).toUInt64 >>> ((nI i &&& 63).toInt64.toUInt64 &&& Int64.toUInt64 63)).toInt64) &&& 1).toInt32 = nI (pt_cnt (pt_bit a16) (i + 1)) := by
        rw [pt_rd hi, lN_i, nI_add]
        rfl
      exact pk_le 8000 i (fun z => absurd z (by omega)) (fun _ => ⟨pk_in (i / 64) 125 (by omega) (pt_ix hi), nm_r e (nm_r (nI_1 i) (hw () trivial))⟩))
/-! binding's loop -/
theorem pt_b49s {post : Int32 → St2 → Prop} (hP : ∀ m, m < 8000 → pt_bit a16 m = P m) (hk : k < 2 ^ 31) (hi : i < 8000) (hle : pt_cnt P (i + 1) ≤ k) (H : wX_binding_49 post (nI v) (nI N) pc tc cp wh vs ce a1 a2 a3 a4 a5 a6 a7 a8 a9 a10 a11 a12 a13 a14 a15 a16 n (nI (k - pt_cnt P (i + 1))) (nI (i + 1))) : wX_binding_49 post (nI v) (nI N) pc tc cp wh vs ce a1 a2 a3 a4 a5 a6 a7 a8 a9 a10 a11 a12 a13 a14 a15 a16 (n + 1) (nI (k - pt_cnt P i)) (nI i) := by
  have rd := pt_rd (F := a16) hi
  rw [hP i hi] at rd
  refine pk_le 8000 i (fun z => absurd z (by omega)) (fun _ => ⟨pk_in (i / 64) 125 (by omega) (pt_ix hi), ?_⟩)
  cases h : P i with
  | false =>
    rw [pt_cnt_f h] at H
    rw [h] at rd
    exact br_t (rd.trans (by decide)) (nm_r (nI_1 i) H)
  | true =>
    have e := pt_cnt_t h
    rw [e] at H hle
    rw [h] at rd
    have e1 : nI (k - pt_cnt P i) + (-1) = nI (k - (pt_cnt P i + 1)) := by
      rw [sb_m1 (show 0 < k - pt_cnt P i by omega), show k - pt_cnt P i - 1 = k - (pt_cnt P i + 1) by omega]
    exact br_f (fun q => absurd (rd.symm.trans q) (by decide)) (br_f (nI_ne0 (by omega) (by omega)) (nm_r e1 (nm_r (nI_1 i) H)))
/-- what binding answers at the number X -/
def pt_dec (v X : Nat) : Int32 := if v = 0 then nI (X / 400) else if v = 1 then nI (X / 20 % 20) else nI (X % 20)
theorem pt_b49 {post : Int32 → St2 → Prop} (hP : ∀ m, m < 8000 → pt_bit a16 m = P m) (hk : k < 2 ^ 31) (hv : v ≤ 2) (hX : X < 8000) (hPX : P X = true) (hc : pt_cnt P X = k) (H : post (pt_dec v X) (nI N, pc, tc, cp, wh, vs, ce, a1, a2, a3, a4, a5, a6, a7, a8, a9, a10, a11, a12, a13, a14, a15, a16)) : ∃ n, wX_binding_49 post (nI v) (nI N) pc tc cp wh vs ce a1 a2 a3 a4 a5 a6 a7 a8 a9 a10 a11 a12 a13 a14 a15 a16 n (nI k) 0 := by
  have key : ∃ n, wX_binding_49 post (nI v) (nI N) pc tc cp wh vs ce a1 a2 a3 a4 a5 a6 a7 a8 a9 a10 a11 a12 a13 a14 a15 a16 n (nI (k - pt_cnt P 0)) (nI 0) := by
    refine pk_loop (σ := Unit) (fun n i _ => wX_binding_49 post (nI v) (nI N) pc tc cp wh vs ce a1 a2 a3 a4 a5 a6 a7 a8 a9 a10 a11 a12 a13 a14 a15 a16 n (nI (k - pt_cnt P i)) (nI i)) (fun _ _ => True) X 0 () (Nat.zero_le X) trivial (fun n _ _ => ?_) (fun n i _ hi _ hw => ?_)
    · have rd := pt_rd (F := a16) hX
      rw [hP X hX, hPX] at rd
      have ez : nI (k - pt_cnt P X) = 0 := by rw [hc, Nat.sub_self]; exact nI_0
      have e400 : nI X / 400 = nI (X / 400) := pk_div (d := 400) (by omega) (by decide) (by decide)
      have e20 : nI X / 20 = nI (X / 20) := pk_div (d := 20) (by omega) (by decide) (by decide)
      have em : nI X / 20 - nI X / 20 / 20 * 20 = nI (X / 20 % 20) := by
        rw [e20]
        exact pk_rem (d := 20) (by omega) (by decide) (by decide)
      have em2 : nI X - nI X / 20 * 20 = nI (X % 20) := pk_rem (d := 20) (by omega) (by decide) (by decide)
      refine pk_le 8000 X (fun z => absurd z (by omega)) (fun _ => ⟨pk_in (X / 64) 125 (by omega) (pt_ix hX), br_f (fun q => absurd (rd.symm.trans q) (by decide)) (br_t ez ?_)⟩)
      unfold pt_dec at H
      refine pk_eq v 0 (fun e => ⟨by decide, ?_⟩) (fun e => pk_eq v 1 (fun e' => ⟨by decide, by decide, ?_⟩) (fun e' => ⟨by decide, ?_⟩))
      · rw [if_pos e] at H
        rw [e400]
        exact H
      · rw [if_neg e, if_pos e'] at H
        rw [em]
        exact H
      · rw [if_neg e, if_neg e'] at H
        rw [em2]
        exact H
    · exact pt_b49s hP hk (by omega) (by rw [← hc]; exact pt_cnt_mono (by omega)) (hw () trivial)
  exact key
theorem pt_b49n {post : Int32 → St2 → Prop} (hP : ∀ m, m < 8000 → pt_bit a16 m = P m) (hk : k < 2 ^ 31) (hc : pt_cnt P 8000 ≤ k) (H : post (-3) (nI N, pc, tc, cp, wh, vs, ce, a1, a2, a3, a4, a5, a6, a7, a8, a9, a10, a11, a12, a13, a14, a15, a16)) : ∃ n, wX_binding_49 post (nI v) (nI N) pc tc cp wh vs ce a1 a2 a3 a4 a5 a6 a7 a8 a9 a10 a11 a12 a13 a14 a15 a16 n (nI k) 0 := by
  have key : ∃ n, wX_binding_49 post (nI v) (nI N) pc tc cp wh vs ce a1 a2 a3 a4 a5 a6 a7 a8 a9 a10 a11 a12 a13 a14 a15 a16 n (nI (k - pt_cnt P 0)) (nI 0) := by
    refine pk_loop (σ := Unit) (fun n i _ => wX_binding_49 post (nI v) (nI N) pc tc cp wh vs ce a1 a2 a3 a4 a5 a6 a7 a8 a9 a10 a11 a12 a13 a14 a15 a16 n (nI (k - pt_cnt P i)) (nI i)) (fun _ _ => True) 8000 0 () (Nat.zero_le _) trivial (fun n _ _ => ?_) (fun n i _ hi _ hw => ?_)
    · exact pk_le 8000 8000 (fun _ => H) (fun z => absurd z (by omega))
    · exact pt_b49s hP hk hi (Nat.le_trans (pt_cnt_mono (show i + 1 ≤ 8000 by omega)) hc) (hw () trivial)
  exact key
/-- a state that is compiled to the code C, or will be when asked -/
def pt_CC (N : Nat) (tc vs : Int32) (a1 a2 a3 a4 a7 : Nat → Int32) (C : (Nat → Int32) → (Nat → Int32) → (Nat → Int32) → (Nat → Int32) → Prop) (u : St2) : Prop :=
  ∀ ψ : St2 → Prop, (∀ (pc ce : Int32) (a5 a6 a8 a9 a10 a11 a12 a13 a14 a15 : Nat → Int32) (a16 : Nat → Int64), C a8 a9 a10 a11 → ψ (nI N, pc, tc, 1, 1, vs, ce, a1, a2, a3, a4, a5, a6, a7, a8, a9, a10, a11, a12, a13, a14, a15, a16)) → wpX_compile ψ u
theorem pt_CC_done (h : C a8 a9 a10 a11) : pt_CC N tc vs a1 a2 a3 a4 a7 C (nI N, pc, tc, 1, 1, vs, ce, a1, a2, a3, a4, a5, a6, a7, a8, a9, a10, a11, a12, a13, a14, a15, a16) := fun ψ H => br_f (by decide) (H _ _ _ _ _ _ _ _ _ _ _ _ _ h)
def pt_RR (N : Nat) (tc vs : Int32) (a1 a2 a3 a4 : Nat → Int32) (C : (Nat → Int32) → (Nat → Int32) → (Nat → Int32) → (Nat → Int32) → Prop) (ld : Nat → Nat) (R : Nat → Nat → Prop) : Prop :=
  ∀ (pc ce : Int32) (a5 a6 a7 a8 a9 a10 a11 a12 : Nat → Int32), C a8 a9 a10 a11 → pt_Run N pc tc 1 1 vs ce a1 a2 a3 a4 a5 a6 a7 a8 a9 a10 a11 a12 ld R
/-- what the found set is, in all -/
def pt_FS (N : Nat) (a4 : Nat → Int32) (ld : Nat → Nat) (R : Nat → Nat → Prop) (P : Nat → Bool) : Prop :=
  N ≤ 20 ∧ (∀ n, n < N → a4 n = nI (ld n) ∧ ld n < N) ∧ ∀ m, m < 8000 → (P m = true ↔ pt_D (fun l => ld l = l) R N m)
theorem pt_FS_eq {F : Nat → Int64} (S : pt_FS N a4 ld R P) (h : pt_B F (pt_D (fun l => ld l = l) R N)) : ∀ m, m < 8000 → pt_bit F m = P m :=
  fun m hm => Bool.eq_iff_iff.mpr ((h m hm).trans (S.2.2 m hm).symm)
theorem pt_match {post : Int32 → St2 → Prop} (hc : pt_CC N tc vs a1 a2 a3 a4 a7 C (v0, v1, v2, v3, v4, v5, v6, c1, c2, c3, c4, c5, c6, c7, c8, c9, c10, c11, c12, c13, c14, c15, c16)) (hR : pt_RR N tc vs a1 a2 a3 a4 C ld R) (S : pt_FS N a4 ld R P)
    (H : ∀ (pc ce : Int32) (a5 a6 a8 a9 a10 a11 a12 a13 a14 a15 : Nat → Int32) (a16 : Nat → Int64), C a8 a9 a10 a11 → post (nI (pt_cnt P 8000)) (nI N, pc, tc, 1, 1, vs, ce, a1, a2, a3, a4, a5, a6, a7, a8, a9, a10, a11, a12, a13, a14, a15, a16)) : wpX_matches post (v0, v1, v2, v3, v4, v5, v6, c1, c2, c3, c4, c5, c6, c7, c8, c9, c10, c11, c12, c13, c14, c15, c16) := by
  unfold wpX_matches
  refine hc _ (fun pc ce a5 a6 a8 a9 a10 a11 a12 a13 a14 a15 a16 hC => br_f (by decide) ?_)
  refine pt_runAll S.1 S.2.1 (hR _ _ _ _ _ _ _ _ _ _ hC) (fun b13 b14 b15 b16 hb => pt_found ?_)
  rw [pt_cnt_congr (pt_FS_eq S hb)]
  exact H _ _ _ _ _ _ _ _ _ _ _ _ _ hC
theorem pt_bndF {post : Int32 → St2 → Prop} (hc : pt_CC N tc vs a1 a2 a3 a4 a7 C (v0, v1, v2, v3, v4, v5, v6, c1, c2, c3, c4, c5, c6, c7, c8, c9, c10, c11, c12, c13, c14, c15, c16)) (hR : pt_RR N tc vs a1 a2 a3 a4 C ld R) (S : pt_FS N a4 ld R P) (hk : k < 2 ^ 31) (hv : v ≤ 2) (hb : ¬ (vs >>> (nI v &&& 31)) &&& 1 = 0) (hX : X < 8000) (hPX : P X = true) (hcn : pt_cnt P X = k)
    (H : ∀ (pc ce : Int32) (a5 a6 a8 a9 a10 a11 a12 a13 a14 a15 : Nat → Int32) (a16 : Nat → Int64), C a8 a9 a10 a11 → post (pt_dec v X) (nI N, pc, tc, 1, 1, vs, ce, a1, a2, a3, a4, a5, a6, a7, a8, a9, a10, a11, a12, a13, a14, a15, a16)) : wpX_binding post (v0, v1, v2, v3, v4, v5, v6, c1, c2, c3, c4, c5, c6, c7, c8, c9, c10, c11, c12, c13, c14, c15, c16) (nI k) (nI v) := by
  refine br_f (nI_pos (by omega)) (br_t (nI_le (b := 2) hv (by decide)) (hc _ (fun pc ce a5 a6 a8 a9 a10 a11 a12 a13 a14 a15 a16 hC => br_f (by decide) (br_f (nI_pos hk) (br_f hb ?_)))))
  refine pt_runAll S.1 S.2.1 (hR _ _ _ _ _ _ _ _ _ _ hC) (fun b13 b14 b15 b16 hB => ?_)
  exact pt_b49 (pt_FS_eq S hB) hk hv hX hPX hcn (H _ _ _ _ _ _ _ _ _ _ _ _ _ hC)
theorem pt_bndN {post : Int32 → St2 → Prop} (hc : pt_CC N tc vs a1 a2 a3 a4 a7 C (v0, v1, v2, v3, v4, v5, v6, c1, c2, c3, c4, c5, c6, c7, c8, c9, c10, c11, c12, c13, c14, c15, c16)) (hR : pt_RR N tc vs a1 a2 a3 a4 C ld R) (S : pt_FS N a4 ld R P) (hk : k < 2 ^ 31) (hv : v ≤ 2) (hcn : pt_cnt P 8000 ≤ k)
    (H : ∀ (pc ce : Int32) (a5 a6 a8 a9 a10 a11 a12 a13 a14 a15 : Nat → Int32) (a16 : Nat → Int64), C a8 a9 a10 a11 → post (-3) (nI N, pc, tc, 1, 1, vs, ce, a1, a2, a3, a4, a5, a6, a7, a8, a9, a10, a11, a12, a13, a14, a15, a16)) : wpX_binding post (v0, v1, v2, v3, v4, v5, v6, c1, c2, c3, c4, c5, c6, c7, c8, c9, c10, c11, c12, c13, c14, c15, c16) (nI k) (nI v) := by
  refine br_f (nI_pos (by omega)) (br_t (nI_le (b := 2) hv (by decide)) (hc _ (fun pc ce a5 a6 a8 a9 a10 a11 a12 a13 a14 a15 a16 hC => br_f (by decide) (br_f (nI_pos hk) (br_c (fun _ => H _ _ _ _ _ _ _ _ _ _ _ _ _ hC) (fun _ => ?_))))))
  refine pt_runAll S.1 S.2.1 (hR _ _ _ _ _ _ _ _ _ _ hC) (fun b13 b14 b15 b16 hB => ?_)
  exact pt_b49n (pt_FS_eq S hB) hk hcn (H _ _ _ _ _ _ _ _ _ _ _ _ _ hC)
theorem pt_bndU {post : Int32 → St2 → Prop} (hc : pt_CC N tc vs a1 a2 a3 a4 a7 C (v0, v1, v2, v3, v4, v5, v6, c1, c2, c3, c4, c5, c6, c7, c8, c9, c10, c11, c12, c13, c14, c15, c16)) (hk : k < 2 ^ 31) (hv : v ≤ 2) (hb : (vs >>> (nI v &&& 31)) &&& 1 = 0)
    (H : ∀ (pc ce : Int32) (a5 a6 a8 a9 a10 a11 a12 a13 a14 a15 : Nat → Int32) (a16 : Nat → Int64), C a8 a9 a10 a11 → post (-3) (nI N, pc, tc, 1, 1, vs, ce, a1, a2, a3, a4, a5, a6, a7, a8, a9, a10, a11, a12, a13, a14, a15, a16)) : wpX_binding post (v0, v1, v2, v3, v4, v5, v6, c1, c2, c3, c4, c5, c6, c7, c8, c9, c10, c11, c12, c13, c14, c15, c16) (nI k) (nI v) :=
  br_f (nI_pos (by omega)) (br_t (nI_le (b := 2) hv (by decide)) (hc _ (fun pc ce a5 a6 a8 a9 a10 a11 a12 a13 a14 a15 a16 hC => br_f (by decide) (br_f (nI_pos hk) (br_t hb (H _ _ _ _ _ _ _ _ _ _ _ _ _ hC))))))
end
end
section
section
variable {B : Nat → Bool} {c : Bool} {K N k a b m : Nat} {sy lf rt ld : Nat → Nat} {a1 a2 a3 a4 b4 : Nat → Int32}
/-- the leaders of the first four nodes -/
def pt_l4 (c : Bool) (n : Nat) : Nat := if c = true ∧ n = 3 then 0 else n
def pt_p (c : Bool) (k : Nat) : Nat := pt_l4 c (k / 4)
def pt_q (c : Bool) (k : Nat) : Nat := pt_l4 c (k % 4)
def pt_g (c : Bool) (b : Nat) : Nat := if b = 0 then 2 else if b = 2 then pt_l4 c 3 else 9
def pt_th (B : Nat → Bool) (c : Bool) (a b k : Nat) : Bool := B k && decide (pt_p c k = a ∧ pt_q c k = pt_g c b)
def pt_P1 (B : Nat → Bool) (c : Bool) (m : Nat) : Bool := decide (m % 20 = 0) && pt_ex (pt_th B c (m / 400) (m / 20 % 20)) 16
def pt_t2 (B : Nat → Bool) (c : Bool) (m k : Nat) : Bool := B k && decide (pt_p c k = m ∧ pt_q c k = m)
def pt_P2 (B : Nat → Bool) (c : Bool) (m : Nat) : Bool := pt_ex (pt_t2 B c m) 16
theorem pt_l4_le (c : Bool) (n : Nat) : pt_l4 c n ≤ n := by unfold pt_l4; split <;> omega
theorem pt_l4_3 {n : Nat} (h : n < 4) : pt_l4 true n < 3 := by
  unfold pt_l4
  by_cases e : n = 3
  · rw [if_pos ⟨rfl, e⟩]; omega
  · rw [if_neg (fun q => e q.2)]; omega
theorem pt_l4_lo {n : Nat} (h : n < 3) : pt_l4 c n = n := if_neg (fun q => by omega)
theorem pt_p_lt (hk : k < 16) : pt_p c k < 4 := Nat.lt_of_le_of_lt (pt_l4_le c _) (by omega)
theorem pt_q_lt : pt_q c k < 4 := Nat.lt_of_le_of_lt (pt_l4_le c _) (by omega)
/-- the nodes when the bits below K are done -/
def pt_G (B : Nat → Bool) (c : Bool) (K N : Nat) (sy lf rt ld : Nat → Nat) (a1 a2 a3 a4 : Nat → Int32) : Prop :=
  (4 ≤ N ∧ N ≤ 4 + K) ∧ pt_K N sy lf rt a1 a2 a3 ∧ (∀ n, n < N → a4 n = nI (ld n) ∧ ld n < N ∧ ld (ld n) = ld n) ∧ (sy 0 = 0 ∧ sy 1 = 0 ∧ sy 2 = 20 ∧ sy 3 = 20) ∧ (lf 2 = 0 ∧ lf 3 = 2) ∧ (∀ n, n < 4 → lf n < 4 ∧ rt n < 4 ∧ ld n = pt_l4 c n) ∧ (∀ n, 4 ≤ n → n < N → sy n = 21 ∧ ∃ k, k < K ∧ B k = true ∧ lf n = k / 4 ∧ rt n = k % 4) ∧ (∀ k, k < K → B k = true → ∃ n, 4 ≤ n ∧ n < N ∧ lf n = k / 4 ∧ rt n = k % 4)
theorem pt_sy4 (s : sy 0 = 0 ∧ sy 1 = 0 ∧ sy 2 = 20 ∧ sy 3 = 20) {n : Nat} (h : n < 4) : (sy n = 0 ∧ n < 2) ∨ (sy n = 20 ∧ (n = 2 ∨ n = 3)) := by
  obtain ⟨s0, s1, s2, s3⟩ := s
  have : n = 0 ∨ n = 1 ∨ n = 2 ∨ n = 3 := by omega
  rcases this with e | e | e | e <;> rw [e] <;> omega
theorem pt_G_fresh (G : pt_G B c K N sy lf rt ld a1 a2 a3 a4) : ∀ n, n < N → ¬ (sy n = 21 ∧ lf n = K / 4 ∧ rt n = K % 4) := by
  obtain ⟨⟨n1, n2⟩, G2, G3, G4, G5, G6, G7, G8⟩ := G
  rintro n hn ⟨q1, q2, q3⟩
  by_cases h : 4 ≤ n
  · obtain ⟨_, k, hk, _, e1, e2⟩ := G7 n h hn
    omega
  · have := pt_sy4 G4 (show n < 4 by omega)
    omega
theorem pt_G_add (G : pt_G B c K N sy lf rt ld a1 a2 a3 a4) (hB : B K = true) (hK : K < 16) (hj : ∀ j, j < N → b4 j = a4 j) (hn : b4 N = nI N ∨ ∃ m, m < N ∧ b4 N = a4 m) : ∃ ld', pt_G B c (K + 1) (N + 1) (pt_set sy N 21) (pt_set lf N (K / 4)) (pt_set rt N (K % 4)) ld' (upd a1 N (nI 21)) (upd a2 N (nI (K / 4))) (upd a3 N (nI (K % 4))) b4 := by
  obtain ⟨⟨n1, n2⟩, G2, G3, ⟨s0, s1, s2, s3⟩, ⟨f2, f3⟩, G6, G7, G8⟩ := G
  have hx : ∃ x, b4 N = nI x ∧ x < N + 1 ∧ (x = N ∨ (x < N ∧ ld x = x)) := by
    rcases hn with h | ⟨m, hm, h⟩
    · exact ⟨N, h, by omega, Or.inl rfl⟩
    · obtain ⟨t1, t2, t3⟩ := G3 m hm
      exact ⟨ld m, h.trans t1, by omega, Or.inr ⟨t2, t3⟩⟩
  obtain ⟨x, x1, x2, x3⟩ := hx
  refine ⟨pt_set ld N x, ⟨by omega, by omega⟩, pt_K_add G2 (by omega) (by omega) (by omega), ?_, ?_, ?_, ?_, ?_, ?_⟩
  · intro n hn
    by_cases e : n = N
    · rw [e, pt_set_s, x1]
      refine ⟨rfl, x2, ?_⟩
      rcases x3 with h | ⟨h1, h2⟩
      · rw [h, pt_set_s]
      · rw [pt_set_n (by omega)]
        exact h2
    · rw [pt_set_n e, hj n (by omega)]
      obtain ⟨t1, t2, t3⟩ := G3 n (by omega)
      refine ⟨t1, by omega, ?_⟩
      rw [pt_set_n (show ld n ≠ N by omega)]
      exact t3
  · rw [pt_set_n (show 0 ≠ N by omega), pt_set_n (show 1 ≠ N by omega), pt_set_n (show 2 ≠ N by omega), pt_set_n (show 3 ≠ N by omega)]
    exact ⟨s0, s1, s2, s3⟩
  · rw [pt_set_n (show 2 ≠ N by omega), pt_set_n (show 3 ≠ N by omega)]
    exact ⟨f2, f3⟩
  · intro n hn
    rw [pt_set_n (show n ≠ N by omega), pt_set_n (show n ≠ N by omega), pt_set_n (show n ≠ N by omega)]
    exact G6 n hn
  · intro n h1 h2
    by_cases e : n = N
    · rw [e, pt_set_s, pt_set_s, pt_set_s]
      exact ⟨rfl, K, by omega, hB, rfl, rfl⟩
    · rw [pt_set_n e, pt_set_n e, pt_set_n e]
      obtain ⟨t1, k, k1, k2⟩ := G7 n h1 (by omega)
      exact ⟨t1, k, by omega, k2⟩
  · intro k hk hb
    by_cases e : k = K
    · exact ⟨N, n1, by omega, by rw [pt_set_s, e], by rw [pt_set_s, e]⟩
    · obtain ⟨n, t1, t2, t3, t4⟩ := G8 k (by omega) hb
      exact ⟨n, t1, by omega, by rw [pt_set_n (show n ≠ N by omega)]; exact t3, by rw [pt_set_n (show n ≠ N by omega)]; exact t4⟩
theorem pt_G_skip (G : pt_G B c K N sy lf rt ld a1 a2 a3 a4) (hB : B K = false) : pt_G B c (K + 1) N sy lf rt ld a1 a2 a3 a4 := by
  obtain ⟨⟨n1, n2⟩, G2, G3, G4, G5, G6, G7, G8⟩ := G
  refine ⟨⟨n1, by omega⟩, G2, G3, G4, G5, G6, fun n h1 h2 => ?_, fun k hk hb => ?_⟩
  · obtain ⟨t1, k, k1, k2⟩ := G7 n h1 h2
    exact ⟨t1, k, by omega, k2⟩
  · by_cases e : k = K
    · rw [e, hB] at hb
      exact absurd hb Bool.false_ne_true
    · exact G8 k (by omega) hb
theorem pt_G_M (G : pt_G B c K N sy lf rt ld a1 a2 a3 a4) (hK : K ≤ 16) : pt_M N sy lf rt ld a1 a2 a3 a4 := by
  obtain ⟨⟨n1, n2⟩, G2, G3, G4, G5, G6, G7, G8⟩ := G
  refine ⟨by omega, fun n hn => ?_⟩
  obtain ⟨k1, k2, k3, k4, k5, k6⟩ := G2 n hn
  obtain ⟨l1, l2, l3⟩ := G3 n hn
  refine ⟨⟨k1, k2, k3, l1⟩, k4, ?_, ?_, l2⟩
  · by_cases h : n < 4
    · have := (G6 n h).1
      omega
    · obtain ⟨_, k, hk, _, e1, e2⟩ := G7 n (by omega) hn
      omega
  · by_cases h : n < 4
    · have := (G6 n h).2.1
      omega
    · obtain ⟨_, k, hk, _, e1, e2⟩ := G7 n (by omega) hn
      omega
theorem pt_FS1 (G : pt_G B c 16 N sy lf rt ld a1 a2 a3 a4) : pt_FS N a4 ld (pt_R1 N sy lf rt ld) (pt_P1 B c) := by
  obtain ⟨⟨n1, n2⟩, G2, G3, G4, ⟨f2, f3⟩, G6, G7, G8⟩ := G
  refine ⟨by omega, fun n hn => ⟨(G3 n hn).1, (G3 n hn).2.1⟩, fun m hm => ?_⟩
  have e0 : ld 0 = 0 := ((G6 0 (by omega)).2.2).trans (pt_l4_lo (by omega))
  have e2 : ld 2 = 2 := ((G6 2 (by omega)).2.2).trans (pt_l4_lo (by omega))
  have e3 : ld 3 = pt_l4 c 3 := (G6 3 (by omega)).2.2
  obtain ⟨s0, s1, s2, s3⟩ := G4
  unfold pt_P1
  rw [Bool.and_eq_true, decide_eq_true_iff, pt_ex_iff]
  constructor
  · rintro ⟨hz, k, hk, hth⟩
    unfold pt_th at hth
    rw [Bool.and_eq_true, decide_eq_true_iff] at hth
    obtain ⟨hB, hp, hq⟩ := hth
    obtain ⟨n, h4, hn, h1, h2⟩ := G8 k hk hB
    have hs := (G7 n h4 hn).1
    have eL : ld (lf n) = m / 400 := by rw [h1, (G6 (k / 4) (by omega)).2.2]; exact hp
    have eR : ld (rt n) = pt_q c k := by rw [h2, (G6 (k % 4) (by omega)).2.2]; rfl
    have hql : pt_q c k < 4 := pt_q_lt
    by_cases b0 : m / 20 % 20 = 0
    · refine ⟨ld n, (G3 n hn).2.1, (G3 n hn).2.2, n, hn, ⟨rfl, hs⟩, 2, by omega, ⟨?_, s2⟩, ?_⟩
      · rw [e2, eR, hq, b0]; rfl
      · show m = 400 * ld (lf n) + 20 * ld (lf 2)
        rw [eL, f2, e0]; omega
    · by_cases b2 : m / 20 % 20 = 2
      · refine ⟨ld n, (G3 n hn).2.1, (G3 n hn).2.2, n, hn, ⟨rfl, hs⟩, 3, by omega, ⟨?_, s3⟩, ?_⟩
        · rw [e3, eR, hq, b2]; rfl
        · show m = 400 * ld (lf n) + 20 * ld (lf 3)
          rw [eL, f3, e2]; omega
      · have h9 : pt_g c (m / 20 % 20) = 9 := by unfold pt_g; rw [if_neg b0, if_neg b2]
        omega
  · rintro ⟨l, hl, _, n, hn, ⟨_, hs⟩, j, hj, ⟨hjl, hjs⟩, hm'⟩
    have hm2 : m = 400 * ld (lf n) + 20 * ld (lf j) := hm'
    have h4 : 4 ≤ n := by
      rcases Nat.lt_or_ge n 4 with z | z
      · have := pt_sy4 ⟨s0, s1, s2, s3⟩ z
        omega
      · exact z
    obtain ⟨_, k, hk, hB, h1, h2⟩ := G7 n h4 hn
    have eL : ld (lf n) = pt_p c k := by rw [h1, (G6 (k / 4) (by omega)).2.2]; rfl
    have eR : ld (rt n) = pt_q c k := by rw [h2, (G6 (k % 4) (by omega)).2.2]; rfl
    have hpl : pt_p c k < 4 := pt_p_lt hk
    have j23 : j = 2 ∨ j = 3 := by
      rcases Nat.lt_or_ge j 4 with z | z
      · have := pt_sy4 ⟨s0, s1, s2, s3⟩ z
        omega
      · have := (G7 j z hj).1
        omega
    rcases j23 with e | e
    · rw [e, eL, f2, e0] at hm2
      rw [e, e2, eR] at hjl
      refine ⟨by omega, k, hk, ?_⟩
      unfold pt_th
      rw [Bool.and_eq_true, decide_eq_true_iff]
      refine ⟨hB, by omega, ?_⟩
      rw [show m / 20 % 20 = 0 by omega, ← hjl]; rfl
    · rw [e, eL, f3, e2] at hm2
      rw [e, e3, eR] at hjl
      refine ⟨by omega, k, hk, ?_⟩
      unfold pt_th
      rw [Bool.and_eq_true, decide_eq_true_iff]
      refine ⟨hB, by omega, ?_⟩
      rw [show m / 20 % 20 = 2 by omega, ← hjl]; rfl
theorem pt_FS2 (G : pt_G B c 16 N sy lf rt ld a1 a2 a3 a4) : pt_FS N a4 ld (pt_R2 N sy lf rt ld) (pt_P2 B c) := by
  obtain ⟨⟨n1, n2⟩, G2, G3, G4, ⟨f2, f3⟩, G6, G7, G8⟩ := G
  refine ⟨by omega, fun n hn => ⟨(G3 n hn).1, (G3 n hn).2.1⟩, fun m hm => ?_⟩
  unfold pt_P2
  rw [pt_ex_iff]
  constructor
  · rintro ⟨k, hk, hth⟩
    unfold pt_t2 at hth
    rw [Bool.and_eq_true, decide_eq_true_iff] at hth
    obtain ⟨hB, hp, hq⟩ := hth
    obtain ⟨n, h4, hn, h1, h2⟩ := G8 k hk hB
    have hs := (G7 n h4 hn).1
    have eL : ld (lf n) = m := by rw [h1, (G6 (k / 4) (by omega)).2.2]; exact hp
    have eR : ld (rt n) = m := by rw [h2, (G6 (k % 4) (by omega)).2.2]; exact hq
    exact ⟨ld n, (G3 n hn).2.1, (G3 n hn).2.2, n, hn, ⟨rfl, hs⟩, eL.trans eR.symm, eL.symm⟩
  · rintro ⟨l, hl, _, n, hn, ⟨_, hs⟩, he, hm'⟩
    have h4 : 4 ≤ n := by
      rcases Nat.lt_or_ge n 4 with z | z
      · have := pt_sy4 G4 z
        omega
      · exact z
    obtain ⟨_, k, hk, hB, h1, h2⟩ := G7 n h4 hn
    have eL : ld (lf n) = pt_p c k := by rw [h1, (G6 (k / 4) (by omega)).2.2]; rfl
    have eR : ld (rt n) = pt_q c k := by rw [h2, (G6 (k % 4) (by omega)).2.2]; rfl
    refine ⟨k, hk, ?_⟩
    unfold pt_t2
    rw [Bool.and_eq_true, decide_eq_true_iff]
    exact ⟨hB, eL.symm.trans hm'.symm, eR.symm.trans (he.symm.trans hm'.symm)⟩
/-! counts of the first set -/
theorem pt_ex_f {f : Nat → Bool} {n : Nat} (h : ∀ k, k < n → f k = false) : pt_ex f n = false := by
  cases e : pt_ex f n with
  | false => rfl
  | true =>
    obtain ⟨k, hk, h'⟩ := (pt_ex_iff f n).mp e
    rw [h k hk] at h'
    exact absurd h' Bool.false_ne_true
theorem pt_th_f (h : ¬ (pt_p c k = a ∧ pt_q c k = pt_g c b)) : pt_th B c a b k = false := by
  unfold pt_th
  rw [decide_eq_false h, Bool.and_false]
theorem pt_P1_at (hb : b < 20) : pt_P1 B c (400 * a + 20 * b) = pt_ex (pt_th B c a b) 16 := by
  unfold pt_P1
  rw [show (400 * a + 20 * b) % 20 = 0 by omega, show (400 * a + 20 * b) / 400 = a by omega, show (400 * a + 20 * b) / 20 % 20 = b by omega]
  rfl
theorem pt_P1_in (h : m % 20 ≠ 0) : pt_P1 B c m = false := by
  unfold pt_P1
  rw [decide_eq_false h]
  rfl
theorem pt_g9 (h0 : b ≠ 0) (h2 : b ≠ 2) : pt_g c b = 9 := by unfold pt_g; rw [if_neg h0, if_neg h2]
theorem pt_P1_b (h : 4 ≤ m / 20 % 20) : pt_P1 B c m = false := by
  unfold pt_P1
  rw [pt_ex_f (fun k _ => pt_th_f (fun q => by
    have h9 := pt_g9 (c := c) (b := m / 20 % 20) (by omega) (by omega)
    have := pt_q_lt (c := c) (k := k)
    omega)), Bool.and_false]
theorem pt_P1_a (h : 1600 ≤ m) : pt_P1 B c m = false := by
  unfold pt_P1
  rw [pt_ex_f (fun k hk => pt_th_f (fun q => by
    have := pt_p_lt (c := c) hk
    omega)), Bool.and_false]
theorem pt_c1_t (hb : b < 20) (h : pt_ex (pt_th B c a b) 16 = true) : pt_cnt (pt_P1 B c) (400 * a + 20 * (b + 1)) = pt_cnt (pt_P1 B c) (400 * a + 20 * b) + 1 := by
  rw [← pt_cnt_t ((pt_P1_at hb).trans h)]
  exact pt_cnt_skip (by omega) (fun j h1 h2 => pt_P1_in (by omega))
theorem pt_c1_f (hb : b < 20) (h : pt_ex (pt_th B c a b) 16 = false) : pt_cnt (pt_P1 B c) (400 * a + 20 * (b + 1)) = pt_cnt (pt_P1 B c) (400 * a + 20 * b) := by
  rw [← pt_cnt_f ((pt_P1_at hb).trans h)]
  exact pt_cnt_skip (by omega) (fun j h1 h2 => pt_P1_in (by omega))
theorem pt_c1_row : pt_cnt (pt_P1 B c) (400 * (a + 1) + 20 * 0) = pt_cnt (pt_P1 B c) (400 * a + 20 * 4) :=
  pt_cnt_skip (by omega) (fun j h1 h2 => pt_P1_b (by omega))
theorem pt_c1_end : pt_cnt (pt_P1 B c) 8000 = pt_cnt (pt_P1 B c) (400 * 4 + 20 * 0) :=
  pt_cnt_skip (by omega) (fun j h1 h2 => pt_P1_a (by omega))
theorem pt_th_c (h : 3 ≤ a ∨ 3 ≤ b) : pt_ex (pt_th B true a b) 16 = false := by
  refine pt_ex_f (fun k hk => pt_th_f (fun q => ?_))
  have h1 := pt_q_lt (c := true) (k := k)
  have h2 : pt_p true k < 3 := pt_l4_3 (by omega)
  rcases h with h | h
  · omega
  · have h9 := pt_g9 (c := true) (b := b) (by omega) (by omega)
    omega
/-! the second set -/
theorem pt_c2_end : pt_cnt (pt_P2 B c) 8000 = pt_cnt (pt_P2 B c) 4 := by
  refine pt_cnt_skip (by omega) (fun j h1 h2 => pt_ex_f (fun k hk => ?_))
  unfold pt_t2
  have := pt_p_lt (c := c) hk
  rw [decide_eq_false (fun q => by omega), Bool.and_false]
theorem pt_P2_f : ∀ a, a < 4 → pt_P2 B false a = B (5 * a) := by
  intro a ha
  have : a = 0 ∨ a = 1 ∨ a = 2 ∨ a = 3 := by omega
  rcases this with e | e | e | e <;> subst e <;> simp [pt_P2, pt_ex, pt_t2, pt_p, pt_q, pt_l4]
theorem pt_P2_t0 : pt_P2 B true 0 = (B 0 || B 3 || B 12 || B 15) := by simp [pt_P2, pt_ex, pt_t2, pt_p, pt_q, pt_l4]
theorem pt_P2_t1 : pt_P2 B true 1 = B 5 := by simp [pt_P2, pt_ex, pt_t2, pt_p, pt_q, pt_l4]
theorem pt_P2_t2 : pt_P2 B true 2 = B 10 := by simp [pt_P2, pt_ex, pt_t2, pt_p, pt_q, pt_l4]
theorem pt_P2_t3 : pt_P2 B true 3 = false := by simp [pt_P2, pt_ex, pt_t2, pt_p, pt_q, pt_l4]
end
end
section
section
variable {w x3 x4 x5 x6 x7 x8 x9 x10 x11 x13 x14 : Int32} {c E : Bool} {a b k i n N mc ms kc ks : Nat} {post : Int32 → St0 → Prop} {sy lf rt ld : Nat → Nat} {R : Nat → Nat → Prop}
variable {pc tc cp wh vs ce : Int32} {a1 a2 a3 a4 a5 a6 a7 a8 a9 a10 a11 a12 a13 a14 a15 : Nat → Int32} {a16 : Nat → Int64}
variable {v0 v1 v2 v3 v4 v5 v6 : Int32} {c1 c2 c3 c4 c5 c6 c7 c8 c9 c10 c11 c12 c13 c14 c15 : Nat → Int32} {c16 : Nat → Int64}
variable {J179 J188 : Int32 → Int32 → Int32 → Int32 → Int32 → Int32 → Int32 → Int32 → Int32 → Int32 → Int32 → (Nat → Int32) → (Nat → Int32) → (Nat → Int32) → (Nat → Int32) → (Nat → Int32) → (Nat → Int32) → (Nat → Int32) → (Nat → Int32) → (Nat → Int32) → (Nat → Int32) → (Nat → Int32) → (Nat → Int32) → (Nat → Int32) → (Nat → Int32) → (Nat → Int32) → (Nat → Int64) → Prop} {J474 : Int32 → Int32 → Int32 → Int32 → Int32 → Int32 → Int32 → Int32 → Int32 → (Nat → Int32) → (Nat → Int32) → (Nat → Int32) → (Nat → Int32) → (Nat → Int32) → (Nat → Int32) → (Nat → Int32) → (Nat → Int32) → (Nat → Int32) → (Nat → Int32) → (Nat → Int32) → (Nat → Int32) → (Nat → Int32) → (Nat → Int32) → (Nat → Int32) → (Nat → Int64) → Prop} {J223 : Int32 → Int32 → Prop}
/-- the bits of the word -/
def pt_bw (w : Int32) (k : Nat) : Bool := decide ((w >>> (nI k &&& 31)) &&& 1 = 1)
theorem pt_302 {p q g : Nat} {gI : Int32} (hi : i < 16) (hp : p < 4) (hq : q < 4) (ha : a < 4) (hg : (gI = nI g ∧ g < 4) ∨ (gI = -1 ∧ g = 9)) (hx13 : x13 = nI p) (hx14 : x14 = nI q) (H : J223 (pt_i (E || (pt_bw w i && decide (p = a ∧ q = g)))) (nI (i + 1))) :
    wL_lawOf_302 post mc ms J179 J188 J223 w x3 x4 x5 x6 x7 (nI a) x9 x10 (pt_i E) (nI i) x13 x14 gI kc ks v0 v1 v2 v3 v4 v5 v6 c1 c2 c3 c4 c5 c6 c7 c8 c9 c10 c11 c12 c13 c14 c15 c16 := by
  subst hx13 hx14
  by_cases hb : (w >>> (nI i &&& 31)) &&& 1 = 1
  · rw [show pt_bw w i = true from decide_eq_true hb, Bool.true_and] at H
    refine br_t hb (pk_eq p a (fun e1 => ?_) (fun e1 => ?_))
    · by_cases e2 : q = g
      · rw [decide_eq_true (⟨e1, e2⟩ : p = a ∧ q = g), Bool.or_true] at H
        have t : nI q = gI := by
          rcases hg with h | h
          · rw [e2, h.1]
          · omega
        exact br_t t (nm_r (nI_1 i) H)
      · rw [decide_eq_false (fun z : p = a ∧ q = g => e2 z.2), Bool.or_false] at H
        have t : ¬ nI q = gI := by
          rcases hg with h | h
          · rw [h.1, nI_eq (by omega) (by omega)]
            exact e2
          · rw [h.1]
            exact pt_nm1 (by omega)
        exact br_f t (nm_r (nI_1 i) H)
    · rw [decide_eq_false (fun z : p = a ∧ q = g => e1 z.1), Bool.or_false] at H
      exact nm_r (nI_1 i) H
  · rw [show pt_bw w i = false from decide_eq_false hb, Bool.false_and, Bool.or_false] at H
    exact br_f hb (nm_r (nI_1 i) H)
theorem pt_272 (hi : i < 16) (ha : a < 4) (hb : b < 4) (hx13 : x13 = nI (pt_p c i)) (hx14 : x14 = nI (pt_q c i)) (H : J223 (pt_i (E || pt_th (pt_bw w) c a b i)) (nI (i + 1))) :
    wL_lawOf_272 post mc ms J179 J188 J223 w (pt_i c) x4 x5 x6 x7 (nI a) (nI b) x10 (pt_i E) (nI i) x13 x14 kc ks v0 v1 v2 v3 v4 v5 v6 c1 c2 c3 c4 c5 c6 c7 c8 c9 c10 c11 c12 c13 c14 c15 c16 := by
  have H' : J223 (pt_i (E || (pt_bw w i && decide (pt_p c i = a ∧ pt_q c i = pt_g c b)))) (nI (i + 1)) := H
  have hp : pt_p c i < 4 := pt_p_lt hi
  have hq : pt_q c i < 4 := pt_q_lt
  refine pk_eq b 0 (fun e => ?_) (fun e => pk_eq b 2 (fun e2 => ?_) (fun e2 => ?_))
  · have eg : pt_g c b = 2 := by rw [e]; rfl
    rw [eg] at H'
    exact pt_302 (g := 2) hi hp hq ha (Or.inl ⟨rfl, by omega⟩) hx13 hx14 H'
  · cases c with
    | false =>
      have eg : pt_g false b = 3 := by rw [e2]; rfl
      rw [eg] at H'
      exact br_t rfl (pt_302 (g := 3) hi hp hq ha (Or.inl ⟨rfl, by omega⟩) hx13 hx14 H')
    | true =>
      have eg : pt_g true b = 0 := by rw [e2]; rfl
      rw [eg] at H'
      exact br_f (by decide) (pt_302 (g := 0) hi hp hq ha (Or.inl ⟨rfl, by omega⟩) hx13 hx14 H')
  · rw [pt_g9 e e2] at H'
    exact pt_302 (g := 9) hi hp hq ha (Or.inr ⟨rfl, rfl⟩) hx13 hx14 H'
theorem pt_sh2 (hi : i < 16) : nI i >>> ((2 : Int32) &&& 31) = nI (i / 4) := pk_shrN (by omega) _ 2 (by decide)
theorem pt_an3 (hi : i < 16) : nI i &&& 3 = nI (i % 4) := pk_andN (by omega) 2 (by decide)
theorem pt_l4_f {m : Nat} : pt_l4 false m = m := if_neg (fun q => absurd q.1 Bool.false_ne_true)
theorem pt_l4_t {m : Nat} (h : m ≠ 3) : pt_l4 true m = m := if_neg (fun q => h q.2)
theorem pt_223s (hi : i < 16) (ha : a < 4) (hb : b < 4) (H : wL_lawOf_223 post mc ms J179 J188 w (pt_i c) x4 x5 x6 x7 (nI a) (nI b) x10 kc ks v0 v1 v2 v3 v4 v5 v6 c1 c2 c3 c4 c5 c6 c7 c8 c9 c10 c11 c12 c13 c14 c15 c16 n (pt_i (E || pt_th (pt_bw w) c a b i)) (nI (i + 1))) :
    wL_lawOf_223 post mc ms J179 J188 w (pt_i c) x4 x5 x6 x7 (nI a) (nI b) x10 kc ks v0 v1 v2 v3 v4 v5 v6 c1 c2 c3 c4 c5 c6 c7 c8 c9 c10 c11 c12 c13 c14 c15 c16 (n + 1) (pt_i E) (nI i) := by
  have e1 := pt_sh2 hi
  have e2 := pt_an3 hi
  refine pk_le 16 i (fun z => absurd z (by omega)) (fun _ => ?_)
  cases c with
  | false =>
    have f1 : nI i >>> ((2 : Int32) &&& 31) = nI (pt_p false i) := by rw [e1]; unfold pt_p; rw [pt_l4_f]
    have f2 : nI i &&& 3 = nI (pt_q false i) := by rw [e2]; unfold pt_q; rw [pt_l4_f]
    exact br_t rfl (br_t rfl (pt_272 hi ha hb f1 f2 H))
  | true =>
    have Q : ∀ x13 : Int32, x13 = nI (pt_p true i) → wL_lawOf_250 post mc ms J179 J188 (wL_lawOf_223 post mc ms J179 J188 w (pt_i true) x4 x5 x6 x7 (nI a) (nI b) x10 kc ks v0 v1 v2 v3 v4 v5 v6 c1 c2 c3 c4 c5 c6 c7 c8 c9 c10 c11 c12 c13 c14 c15 c16 n) w (pt_i true) x4 x5 x6 x7 (nI a) (nI b) x10 (pt_i E) (nI i) x13 kc ks v0 v1 v2 v3 v4 v5 v6 c1 c2 c3 c4 c5 c6 c7 c8 c9 c10 c11 c12 c13 c14 c15 c16 := by
      intro x13 hx
      refine br_f (by decide) (pk_eq (i % 4) 3 (fun z => ?_) (fun z => ?_) e2)
      · have f2 : (0 : Int32) = nI (pt_q true i) := by unfold pt_q; rw [z]; rfl
        exact pt_272 hi ha hb hx f2 H
      · have f2 : nI i &&& 3 = nI (pt_q true i) := by rw [e2]; unfold pt_q; rw [pt_l4_t z]
        exact pt_272 hi ha hb hx f2 H
    refine br_f (by decide) (pk_eq (i / 4) 3 (fun z => ?_) (fun z => ?_) e1)
    · exact Q 0 (by unfold pt_p; rw [z]; rfl)
    · exact Q _ (by rw [e1]; unfold pt_p; rw [pt_l4_t z])
theorem pt_223 (hc : pt_CC N (nI 4) (nI 3) a1 a2 a3 a4 a7 pt_C1 (v0, v1, v2, v3, v4, v5, v6, c1, c2, c3, c4, c5, c6, c7, c8, c9, c10, c11, c12, c13, c14, c15, c16)) (hR : pt_RR N (nI 4) (nI 3) a1 a2 a3 a4 pt_C1 ld R) (S : pt_FS N a4 ld R (pt_P1 (pt_bw w) c)) (ha : a < 4) (hb : b < 4) (hk : pt_cnt (pt_P1 (pt_bw w) c) (400 * a + 20 * b) = k) (hx : x10 = 0 → pt_ex (pt_th (pt_bw w) c a b) 16 = false)
    (H0 : pt_ex (pt_th (pt_bw w) c a b) 16 = false → J188 (nI k) x6 x7 (nI (b + 1)) v0 v1 v2 v3 v4 v5 v6 c1 c2 c3 c4 c5 c6 c7 c8 c9 c10 c11 c12 c13 c14 c15 c16)
    (H1 : pt_ex (pt_th (pt_bw w) c a b) 16 = true → ∀ (pc ce : Int32) (a5 a6 a8 a9 a10 a11 a12 a13 a14 a15 : Nat → Int32) (a16 : Nat → Int64), pt_C1 a8 a9 a10 a11 → J188 (nI (k + 1)) (nI a) (nI b) (nI (b + 1)) (nI N) pc (nI 4) 1 1 (nI 3) ce a1 a2 a3 a4 a5 a6 a7 a8 a9 a10 a11 a12 a13 a14 a15 a16) :
    ∃ f, wL_lawOf_223 post mc ms J179 J188 w (pt_i c) x4 (nI k) x6 x7 (nI a) (nI b) x10 kc ks v0 v1 v2 v3 v4 v5 v6 c1 c2 c3 c4 c5 c6 c7 c8 c9 c10 c11 c12 c13 c14 c15 c16 f 0 0 := by
  refine pk_loop (σ := Unit) (fun f i _ => wL_lawOf_223 post mc ms J179 J188 w (pt_i c) x4 (nI k) x6 x7 (nI a) (nI b) x10 kc ks v0 v1 v2 v3 v4 v5 v6 c1 c2 c3 c4 c5 c6 c7 c8 c9 c10 c11 c12 c13 c14 c15 c16 f (pt_i (pt_ex (pt_th (pt_bw w) c a b) i)) (nI i)) (fun _ _ => True) 16 0 () (by omega) trivial (fun f _ _ => ?_) (fun f i _ hi _ hw => pt_223s hi ha hb (hw () trivial))
  have hk8 : k < 2 ^ 31 := by
    have := pt_cnt_le (pt_P1 (pt_bw w) c) (400 * a + 20 * b)
    omega
  refine pk_le 16 16 (fun _ => br_c (fun z => nm_r (nI_1 b) (H0 (hx z))) (fun z => ?_)) (fun z => absurd z (by omega))
  cases hF : pt_ex (pt_th (pt_bw w) c a b) 16 with
  | false => exact br_t rfl (nm_r (nI_1 b) (H0 hF))
  | true =>
    have hP : pt_P1 (pt_bw w) c (400 * a + 20 * b) = true := (pt_P1_at (by omega)).trans hF
    have d0 : pt_dec 0 (400 * a + 20 * b) = nI a := by
      show nI ((400 * a + 20 * b) / 400) = nI a
      rw [show (400 * a + 20 * b) / 400 = a by omega]
    have d1 : pt_dec 1 (400 * a + 20 * b) = nI b := by
      show nI ((400 * a + 20 * b) / 20 % 20) = nI b
      rw [show (400 * a + 20 * b) / 20 % 20 = b by omega]
    refine br_f (by decide) (pt_bndF (v := 0) (X := 400 * a + 20 * b) hc hR S hk8 (by omega) (by decide) (by omega) hP hk (fun pc ce a5 a6 a8 a9 a10 a11 a12 a13 a14 a15 a16 hC => br_t d0 ?_))
    refine pt_bndF (v := 1) (X := 400 * a + 20 * b) (pt_CC_done hC) hR S hk8 (by omega) (by decide) (by omega) hP hk (fun pc ce a5 a6 a8 a9 a10 a11 a12 a13 a14 a15 a16 hC => br_t d1 ?_)
    exact nm_r (nI_1 k) (nm_r (nI_1 b) (H1 hF _ _ _ _ _ _ _ _ _ _ _ _ _ hC))
/-- the last match's places, -1 as long as there was none -/
def pt_LA (k : Nat) (x6 x7 : Int32) : Prop := (k = 0 ∧ x6 = -1 ∧ x7 = -1) ∨ (0 < k ∧ 0 ≤ x6)
theorem pt_188 (hR : pt_RR N (nI 4) (nI 3) a1 a2 a3 a4 pt_C1 ld R) (S : pt_FS N a4 ld R (pt_P1 (pt_bw w) c)) (ha : a < 4)
    (HJ : ∀ (x6 x7 : Int32) (v0 v1 v2 v3 v4 v5 v6 : Int32) (c1 c2 c3 c4 c5 c6 c7 c8 c9 c10 c11 c12 c13 c14 c15 : Nat → Int32) (c16 : Nat → Int64), pt_LA (pt_cnt (pt_P1 (pt_bw w) c) (400 * (a + 1) + 20 * 0)) x6 x7 → pt_CC N (nI 4) (nI 3) a1 a2 a3 a4 a7 pt_C1 (v0, v1, v2, v3, v4, v5, v6, c1, c2, c3, c4, c5, c6, c7, c8, c9, c10, c11, c12, c13, c14, c15, c16) → J179 (nI (pt_cnt (pt_P1 (pt_bw w) c) (400 * (a + 1) + 20 * 0))) x6 x7 (nI (a + 1)) v0 v1 v2 v3 v4 v5 v6 c1 c2 c3 c4 c5 c6 c7 c8 c9 c10 c11 c12 c13 c14 c15 c16) :
    ∀ (d b : Nat), b + d = 4 → ∀ (x6 x7 : Int32) (v0 v1 v2 v3 v4 v5 v6 : Int32) (c1 c2 c3 c4 c5 c6 c7 c8 c9 c10 c11 c12 c13 c14 c15 : Nat → Int32) (c16 : Nat → Int64), pt_LA (pt_cnt (pt_P1 (pt_bw w) c) (400 * a + 20 * b)) x6 x7 → pt_CC N (nI 4) (nI 3) a1 a2 a3 a4 a7 pt_C1 (v0, v1, v2, v3, v4, v5, v6, c1, c2, c3, c4, c5, c6, c7, c8, c9, c10, c11, c12, c13, c14, c15, c16) → wL_lawOf_188 post mc ms J179 w (pt_i c) x4 (nI a) kc ks (d + 1) (nI (pt_cnt (pt_P1 (pt_bw w) c) (400 * a + 20 * b))) x6 x7 (nI b) v0 v1 v2 v3 v4 v5 v6 c1 c2 c3 c4 c5 c6 c7 c8 c9 c10 c11 c12 c13 c14 c15 c16 := by
  rw [pt_c1_row (B := pt_bw w) (c := c) (a := a)] at HJ
  intro d
  induction d with
  | zero =>
    intro b hb x6 x7 v0 v1 v2 v3 v4 v5 v6 c1 c2 c3 c4 c5 c6 c7 c8 c9 c10 c11 c12 c13 c14 c15 c16 hLA hCC
    have e : b = 4 := by omega
    subst e
    exact pk_le 4 4 (fun _ => nm_r (nI_1 a) (HJ x6 x7 v0 v1 v2 v3 v4 v5 v6 c1 c2 c3 c4 c5 c6 c7 c8 c9 c10 c11 c12 c13 c14 c15 c16 hLA hCC)) (fun z => absurd z (by omega))
  | succ d ih =>
    intro b hb x6 x7 v0 v1 v2 v3 v4 v5 v6 c1 c2 c3 c4 c5 c6 c7 c8 c9 c10 c11 c12 c13 c14 c15 c16 hLA hCC
    have hb4 : b < 4 := by omega
    have base : ∀ x10 : Int32, (x10 = 0 → pt_ex (pt_th (pt_bw w) c a b) 16 = false) → ∃ f, wL_lawOf_223 post mc ms J179 (wL_lawOf_188 post mc ms J179 w (pt_i c) x4 (nI a) kc ks (d + 1)) w (pt_i c) x4 (nI (pt_cnt (pt_P1 (pt_bw w) c) (400 * a + 20 * b))) x6 x7 (nI a) (nI b) x10 kc ks v0 v1 v2 v3 v4 v5 v6 c1 c2 c3 c4 c5 c6 c7 c8 c9 c10 c11 c12 c13 c14 c15 c16 f 0 0 := by
      intro x10 hx
      refine pt_223 hCC hR S ha hb4 rfl hx (fun hF => ?_) (fun hF pc ce a5 a6 a8 a9 a10 a11 a12 a13 a14 a15 a16 hC => ?_)
      · have e := pt_c1_f (B := pt_bw w) (c := c) (a := a) (b := b) (by omega) hF
        have t := ih (b + 1) (by omega) x6 x7 v0 v1 v2 v3 v4 v5 v6 c1 c2 c3 c4 c5 c6 c7 c8 c9 c10 c11 c12 c13 c14 c15 c16 (by rw [e]; exact hLA) hCC
        rw [e] at t
        exact t
      · have e := pt_c1_t (B := pt_bw w) (c := c) (a := a) (b := b) (by omega) hF
        have t := ih (b + 1) (by omega) (nI a) (nI b) (nI N) pc (nI 4) 1 1 (nI 3) ce a1 a2 a3 a4 a5 a6 a7 a8 a9 a10 a11 a12 a13 a14 a15 a16 (by rw [e]; exact Or.inr ⟨by omega, nI_pos' (by omega)⟩) (pt_CC_done hC)
        rw [e] at t
        exact t
    refine pk_le 4 b (fun z => absurd z (by omega)) (fun _ => ?_)
    cases c with
    | false => exact br_t rfl (base 1 (fun z => absurd z (by decide)))
    | true => exact br_f (by decide) (pk_le 3 a (fun h => base 0 (fun _ => pt_th_c (Or.inl h))) (fun h => pk_le 3 b (fun h' => base 0 (fun _ => pt_th_c (Or.inr h'))) (fun h' => base 1 (fun z => absurd z (by decide)))))
/-! the second pattern's loop -/
theorem pt_564 (hc : pt_CC N (nI 3) (nI 4) a1 a2 a3 a4 a7 pt_C2 (v0, v1, v2, v3, v4, v5, v6, c1, c2, c3, c4, c5, c6, c7, c8, c9, c10, c11, c12, c13, c14, c15, c16)) (hR : pt_RR N (nI 3) (nI 4) a1 a2 a3 a4 pt_C2 ld R) (S : pt_FS N a4 ld R (pt_P2 (pt_bw w) c)) (ha : a < 4) (hk : pt_cnt (pt_P2 (pt_bw w) c) a = k)
    (H0 : pt_P2 (pt_bw w) c a = false → J474 (nI k) (nI (a + 1)) v0 v1 v2 v3 v4 v5 v6 c1 c2 c3 c4 c5 c6 c7 c8 c9 c10 c11 c12 c13 c14 c15 c16)
    (H1 : pt_P2 (pt_bw w) c a = true → ∀ (pc ce : Int32) (a5 a6 a8 a9 a10 a11 a12 a13 a14 a15 : Nat → Int32) (a16 : Nat → Int64), pt_C2 a8 a9 a10 a11 → J474 (nI (k + 1)) (nI (a + 1)) (nI N) pc (nI 3) 1 1 (nI 4) ce a1 a2 a3 a4 a5 a6 a7 a8 a9 a10 a11 a12 a13 a14 a15 a16) (e : Bool) (he : pt_P2 (pt_bw w) c a = e) :
    wL_lawOf_564 post mc ms J474 w x3 x4 x5 x6 x7 (nI k) (nI a) (pt_i e) kc ks v0 v1 v2 v3 v4 v5 v6 c1 c2 c3 c4 c5 c6 c7 c8 c9 c10 c11 c12 c13 c14 c15 c16 := by
  have hk8 : k < 2 ^ 31 := by
    have := pt_cnt_le (pt_P2 (pt_bw w) c) a
    omega
  cases e with
  | false => exact br_t rfl (br_t rfl (nm_r (nI_1 a) (H0 he)))
  | true =>
    have d2 : pt_dec 2 a = nI a := by
      show nI (a % 20) = nI a
      rw [show a % 20 = a by omega]
    refine br_f (by decide) (pt_bndF (v := 2) (X := a) hc hR S hk8 (by omega) (by decide) (by omega) he hk (fun pc ce a5 a6 a8 a9 a10 a11 a12 a13 a14 a15 a16 hC => br_t d2 ?_))
    exact br_f (by decide) (nm_r (nI_1 k) (nm_r (nI_1 a) (H1 he _ _ _ _ _ _ _ _ _ _ _ _ _ hC)))
theorem pt_497 (ha : a < 4) (F : ∀ e : Bool, pt_P2 (pt_bw w) c a = e → wL_lawOf_564 post mc ms J474 w (pt_i c) x4 x5 x6 x7 (nI k) (nI a) (pt_i e) kc ks v0 v1 v2 v3 v4 v5 v6 c1 c2 c3 c4 c5 c6 c7 c8 c9 c10 c11 c12 c13 c14 c15 c16) (e : Bool) (he : pt_bw w (5 * a) = e) :
    wL_lawOf_497 post mc ms J474 w (pt_i c) x4 x5 x6 x7 (nI k) (nI a) (pt_i e) kc ks v0 v1 v2 v3 v4 v5 v6 c1 c2 c3 c4 c5 c6 c7 c8 c9 c10 c11 c12 c13 c14 c15 c16 := by
  cases c with
  | false => exact br_t rfl (br_t rfl (F e ((pt_P2_f a ha).trans he)))
  | true =>
    refine br_f (by decide) (pk_eq a 0 (fun a0 => ?_) (fun a0 => ?_))
    · subst a0
      have G : ∀ e : Bool, pt_P2 (pt_bw w) true 0 = e → wL_lawOf_551 post mc ms J474 w (pt_i true) x4 x5 x6 x7 (nI k) (nI 0) (pt_i e) kc ks v0 v1 v2 v3 v4 v5 v6 c1 c2 c3 c4 c5 c6 c7 c8 c9 c10 c11 c12 c13 c14 c15 c16 := fun e he => br_f (by decide) (br_f (by decide) (F e he))
      have P := pt_P2_t0 (B := pt_bw w)
      have b0 : (w &&& 1 = 1) ↔ pt_bw w 0 = true := by
        unfold pt_bw
        rw [decide_eq_true_iff, show w >>> (nI 0 &&& 31) = w from sb_shr0 w]
      have b3 : ((w >>> ((3 : Int32) &&& 31)) &&& 1 = 1) ↔ pt_bw w 3 = true := decide_eq_true_iff.symm
      have b12 : ((w >>> ((12 : Int32) &&& 31)) &&& 1 = 1) ↔ pt_bw w 12 = true := decide_eq_true_iff.symm
      have b15 : ((w >>> ((15 : Int32) &&& 31)) &&& 1 = 1) ↔ pt_bw w 15 = true := decide_eq_true_iff.symm
      refine ek_if b0 (fun h => G true (by rw [P, h]; simp)) (fun h0 => ?_)
      refine ek_if b3 (fun h => G true (by rw [P, h]; simp)) (fun h3 => ?_)
      refine ek_if b12 (fun h => G true (by rw [P, h]; simp)) (fun h12 => ?_)
      refine ek_if b15 (fun h => G true (by rw [P, h]; simp)) (fun h15 => ?_)
      exact G false (by rw [P, Bool.eq_false_iff.mpr h0, Bool.eq_false_iff.mpr h3, Bool.eq_false_iff.mpr h12, Bool.eq_false_iff.mpr h15]; rfl)
    · refine br_f (by decide) (pk_eq a 3 (fun a3 => ?_) (fun a3 => ?_))
      · subst a3
        exact F false pt_P2_t3
      · have : a = 1 ∨ a = 2 := by omega
        rcases this with h | h
        · subst h
          exact F e (pt_P2_t1.trans he)
        · subst h
          exact F e (pt_P2_t2.trans he)
end
end
section
section
variable {w x3 x4 x5 x6 x7 x8 x9 x10 x11 x13 x14 : Int32} {c : Bool} {a b k i n N mc ms kc ks made : Nat} {post : Int32 → St0 → Prop} {sy lf rt ld : Nat → Nat}
variable {pc tc cp wh vs ce : Int32} {a1 a2 a3 a4 a5 a6 a7 a8 a9 a10 a11 a12 a13 a14 a15 : Nat → Int32} {a16 : Nat → Int64}
variable {v0 v1 v2 v3 v4 v5 v6 : Int32} {c1 c2 c3 c4 c5 c6 c7 c8 c9 c10 c11 c12 c13 c14 c15 : Nat → Int32} {c16 : Nat → Int64}
theorem pt_match3 {post : Int32 → St2 → Prop} (h0 : a7 0 = nI 21) (h1 : a7 1 = nI 2) (h2 : a7 2 = nI 2) (H : ∀ vs ce a8 a9 a10 a11 a12, post (-3) (nI N, pc, nI 4, 1, 0, vs, ce, a1, a2, a3, a4, a5, a6, a7, a8, a9, a10, a11, a12, a13, a14, a15, a16)) : wpX_matches post (nI N, pc, nI 4, 0, wh, vs, ce, a1, a2, a3, a4, a5, a6, a7, a8, a9, a10, a11, a12, a13, a14, a15, a16) := by
  unfold wpX_matches
  exact pt_comp3 h0 h1 h2 (fun vs ce a8 a9 a10 a11 a12 => br_t rfl (H vs ce a8 a9 a10 a11 a12))
theorem pt_match0 {post : Int32 → St2 → Prop} (h0 : a7 0 = nI 21) (h1 : a7 1 = nI 0) (h2 : a7 2 = nI 20) (H : ∀ vs ce a8 a9 a10 a11 a12, post (-3) (nI N, pc, nI 3, 1, 0, vs, ce, a1, a2, a3, a4, a5, a6, a7, a8, a9, a10, a11, a12, a13, a14, a15, a16)) : wpX_matches post (nI N, pc, nI 3, 0, wh, vs, ce, a1, a2, a3, a4, a5, a6, a7, a8, a9, a10, a11, a12, a13, a14, a15, a16) := by
  unfold wpX_matches
  exact pt_comp0 h0 h1 h2 (fun vs ce a8 a9 a10 a11 a12 => br_t rfl (H vs ce a8 a9 a10 a11 a12))
/-- the law's last rows -/
theorem pt_665 (hk : k < 2 ^ 31) (hLA : pt_LA k x6 x7) (H : post 1 ()) : (nI k = 0 → wL_lawOf_665 post mc ms x6 x7 1 kc ks) ∧ (¬ nI k = 0 → wL_lawOf_665 post mc ms x6 x7 0 kc ks) := by
  rcases hLA with ⟨h1, h2, h3⟩ | ⟨h1, h2⟩
  · subst h1 h2 h3
    exact br_t rfl (br_f (by decide) (br_f (by decide) (br_t rfl H)))
  · exact br_f (nI_ne0 h1 hk) (br_t h2 (br_t rfl H))
theorem pt_474 (hN : N = 4 + made) (hN20 : N ≤ 20) (hR : pt_RR N (nI 3) (nI 4) a1 a2 a3 a4 pt_C2 ld (pt_R2 N sy lf rt ld)) (S : pt_FS N a4 ld (pt_R2 N sy lf rt ld) (pt_P2 (pt_bw w) c)) (h0 : a7 0 = nI 21) (h1 : a7 1 = nI 2) (h2 : a7 2 = nI 2) (hk : k < 2 ^ 31) (hLA : pt_LA k x6 x7) (H : post 1 ()) :
    ∀ (d a : Nat), a + d = 4 → ∀ (v0 v1 v2 v3 v4 v5 v6 : Int32) (c1 c2 c3 c4 c5 c6 c7 c8 c9 c10 c11 c12 c13 c14 c15 : Nat → Int32) (c16 : Nat → Int64), pt_CC N (nI 3) (nI 4) a1 a2 a3 a4 a7 pt_C2 (v0, v1, v2, v3, v4, v5, v6, c1, c2, c3, c4, c5, c6, c7, c8, c9, c10, c11, c12, c13, c14, c15, c16) → wL_lawOf_474 post mc ms w (pt_i c) (nI made) (nI k) x6 x7 kc ks (d + 1) (nI (pt_cnt (pt_P2 (pt_bw w) c) a)) (nI a) v0 v1 v2 v3 v4 v5 v6 c1 c2 c3 c4 c5 c6 c7 c8 c9 c10 c11 c12 c13 c14 c15 c16 := by
  intro d
  induction d with
  | zero =>
    intro a ha v0 v1 v2 v3 v4 v5 v6 c1 c2 c3 c4 c5 c6 c7 c8 c9 c10 c11 c12 c13 c14 c15 c16 hCC
    have e : a = 4 := by omega
    subst e
    refine pk_le 4 4 (fun _ => ?_) (fun z => absurd z (by omega))
    refine pt_match hCC hR S (fun pc ce a5 a6 a8 a9 a10 a11 a12 a13 a14 a15 a16 hC => br_t (by rw [pt_c2_end]) ?_)
    refine pt_tok (T := 3) (t := 10) (by omega) (by omega) (br_t rfl ?_)
    refine pt_match3 h0 h1 h2 (fun vs ce a8 a9 a10 a11 a12 => br_t rfl ?_)
    have e4 : nI N = 4 + nI made := by rw [hN]; exact (nI_add 4 made).symm
    refine br_t e4 ?_
    refine br_t rfl ?_
    exact br_f (by decide) (br_t (by decide) (br_t rfl (br_t rfl (pt_665 hk hLA H))))
  | succ d ih =>
    intro a ha v0 v1 v2 v3 v4 v5 v6 c1 c2 c3 c4 c5 c6 c7 c8 c9 c10 c11 c12 c13 c14 c15 c16 hCC
    have ha4 : a < 4 := by omega
    have e5 : (5 : Int32) * nI a = nI (5 * a) := pk_mul 5 a
    have F : ∀ e : Bool, pt_P2 (pt_bw w) c a = e → wL_lawOf_564 post mc ms (wL_lawOf_474 post mc ms w (pt_i c) (nI made) (nI k) x6 x7 kc ks (d + 1)) w (pt_i c) (nI made) (nI k) x6 x7 (nI (pt_cnt (pt_P2 (pt_bw w) c) a)) (nI a) (pt_i e) kc ks v0 v1 v2 v3 v4 v5 v6 c1 c2 c3 c4 c5 c6 c7 c8 c9 c10 c11 c12 c13 c14 c15 c16 := by
      refine pt_564 hCC hR S ha4 rfl (fun hF => ?_) (fun hF pc ce a5 a6 a8 a9 a10 a11 a12 a13 a14 a15 a16 hC => ?_)
      · have t := ih (a + 1) (by omega) v0 v1 v2 v3 v4 v5 v6 c1 c2 c3 c4 c5 c6 c7 c8 c9 c10 c11 c12 c13 c14 c15 c16 hCC
        rw [pt_cnt_f hF] at t
        exact t
      · have t := ih (a + 1) (by omega) (nI N) pc (nI 3) 1 1 (nI 4) ce a1 a2 a3 a4 a5 a6 a7 a8 a9 a10 a11 a12 a13 a14 a15 a16 (pt_CC_done hC)
        rw [pt_cnt_t hF] at t
        exact t
    have eb : ((w >>> ((5 * nI a) &&& 31)) &&& 1 = 1) ↔ pt_bw w (5 * a) = true := by
      rw [e5]
      exact decide_eq_true_iff.symm
    refine pk_le 4 a (fun z => absurd z (by omega)) (fun _ => ek_if eb (fun h => ?_) (fun h => ?_))
    · exact pt_497 ha4 F true h
    · exact pt_497 ha4 F false (Bool.eq_false_iff.mpr h)
theorem pt_179 (hN : N = 4 + made) (G : pt_G (pt_bw w) c 16 N sy lf rt ld a1 a2 a3 a4) (H : post 1 ()) :
    ∀ (d a : Nat), a + d = 4 → ∀ (x6 x7 : Int32) (v0 v1 v2 v3 v4 v5 v6 : Int32) (c1 c2 c3 c4 c5 c6 c7 c8 c9 c10 c11 c12 c13 c14 c15 : Nat → Int32) (c16 : Nat → Int64), pt_LA (pt_cnt (pt_P1 (pt_bw w) c) (400 * a + 20 * 0)) x6 x7 → pt_CC N (nI 4) (nI 3) a1 a2 a3 a4 a7 pt_C1 (v0, v1, v2, v3, v4, v5, v6, c1, c2, c3, c4, c5, c6, c7, c8, c9, c10, c11, c12, c13, c14, c15, c16) → wL_lawOf_179 post mc ms w (pt_i c) (nI made) kc ks (d + 1) (nI (pt_cnt (pt_P1 (pt_bw w) c) (400 * a + 20 * 0))) x6 x7 (nI a) v0 v1 v2 v3 v4 v5 v6 c1 c2 c3 c4 c5 c6 c7 c8 c9 c10 c11 c12 c13 c14 c15 c16 := by
  have M := pt_G_M G (Nat.le_refl 16)
  have S1 := pt_FS1 G
  have S2 := pt_FS2 G
  have R1 : pt_RR N (nI 4) (nI 3) a1 a2 a3 a4 pt_C1 ld (pt_R1 N sy lf rt ld) := fun pc ce a5 a6 a7 a8 a9 a10 a11 a12 hC => pt_Run1 M hC
  have R2 : pt_RR N (nI 3) (nI 4) a1 a2 a3 a4 pt_C2 ld (pt_R2 N sy lf rt ld) := fun pc ce a5 a6 a7 a8 a9 a10 a11 a12 hC => pt_Run2 M hC
  intro d
  induction d with
  | zero =>
    intro a ha x6 x7 v0 v1 v2 v3 v4 v5 v6 c1 c2 c3 c4 c5 c6 c7 c8 c9 c10 c11 c12 c13 c14 c15 c16 hLA hCC
    have e : a = 4 := by omega
    subst e
    have hk8 : pt_cnt (pt_P1 (pt_bw w) c) (400 * 4 + 20 * 0) < 2 ^ 31 := by
      have := pt_cnt_le (pt_P1 (pt_bw w) c) (400 * 4 + 20 * 0)
      omega
    refine pk_le 4 4 (fun _ => ?_) (fun z => absurd z (by omega))
    refine pt_match hCC R1 S1 (fun pc ce a5 a6 a8 a9 a10 a11 a12 a13 a14 a15 a16 hC => br_t (by rw [pt_c1_end]) ?_)
    refine pt_bndN (v := 0) (pt_CC_done hC) R1 S1 hk8 (by omega) (by rw [pt_c1_end]; exact Nat.le_refl _) (fun pc ce a5 a6 a8 a9 a10 a11 a12 a13 a14 a15 a16 hC => br_t rfl ?_)
    refine pt_bndU (k := 0) (v := 2) (pt_CC_done hC) (by omega) (by omega) (by decide) (fun pc ce a5 a6 a8 a9 a10 a11 a12 a13 a14 a15 a16 hC => br_t rfl ?_)
    refine br_t rfl ?_
    refine pt_tok (T := 0) (t := 21) (by omega) (by omega) (br_t rfl ?_)
    refine pt_tok (T := 1) (t := 2) (by omega) (by omega) (br_t rfl ?_)
    refine pt_tok (T := 2) (t := 2) (by omega) (by omega) (br_t rfl ?_)
    refine ⟨5, pt_474 (a7 := upd (upd (upd a7 0 (nI 21)) 1 (nI 2)) 2 (nI 2)) hN M.1 R2 S2 rfl rfl rfl hk8 hLA H 4 0 (by omega) _ _ _ _ _ _ _ _ _ _ _ _ _ _ _ _ _ _ _ _ _ _ _ ?_⟩
    exact fun ψ Hψ => pt_comp2 rfl rfl rfl (fun ce a8 a9 a10 a11 a12 hC => Hψ _ _ _ _ _ _ _ _ _ _ _ _ _ hC)
  | succ d ih =>
    intro a ha x6 x7 v0 v1 v2 v3 v4 v5 v6 c1 c2 c3 c4 c5 c6 c7 c8 c9 c10 c11 c12 c13 c14 c15 c16 hLA hCC
    refine pk_le 4 a (fun z => absurd z (by omega)) (fun _ => ⟨5, ?_⟩)
    exact pt_188 R1 S1 (by omega) (fun x6 x7 v0 v1 v2 v3 v4 v5 v6 c1 c2 c3 c4 c5 c6 c7 c8 c9 c10 c11 c12 c13 c14 c15 c16 hLA hCC => ih (a + 1) (by omega) x6 x7 v0 v1 v2 v3 v4 v5 v6 c1 c2 c3 c4 c5 c6 c7 c8 c9 c10 c11 c12 c13 c14 c15 c16 hLA hCC) 4 0 (by omega) x6 x7 v0 v1 v2 v3 v4 v5 v6 c1 c2 c3 c4 c5 c6 c7 c8 c9 c10 c11 c12 c13 c14 c15 c16 hLA hCC
theorem pt_80 (H : post 1 ()) : ∀ (d K : Nat), K + d = 16 → ∀ (made N : Nat) (sy lf rt ld : Nat → Nat) (pc cp wh vs ce : Int32) (a1 a2 a3 a4 a5 a6 a7 a8 a9 a10 a11 a12 a13 a14 a15 : Nat → Int32) (a16 : Nat → Int64), N = 4 + made → pt_G (pt_bw w) c K N sy lf rt ld a1 a2 a3 a4 → wL_lawOf_80 post mc ms w (pt_i c) kc ks (d + 1) (nI made) (nI K) (nI N) pc 0 cp wh vs ce a1 a2 a3 a4 a5 a6 a7 a8 a9 a10 a11 a12 a13 a14 a15 a16 := by
  intro d
  induction d with
  | zero =>
    intro K hK made N sy lf rt ld pc cp wh vs ce a1 a2 a3 a4 a5 a6 a7 a8 a9 a10 a11 a12 a13 a14 a15 a16 hN G
    have e : K = 16 := by omega
    subst e
    refine pk_le 16 16 (fun _ => ?_) (fun z => absurd z (by omega))
    refine pt_tok (T := 0) (t := 21) (by omega) (by omega) ?_
    refine pt_tok (T := 1) (t := 0) (by omega) (by omega) ?_
    refine pt_tok (T := 2) (t := 20) (by omega) (by omega) ?_
    refine pt_match0 rfl rfl rfl (fun vs ce a8 a9 a10 a11 a12 => br_t rfl ?_)
    refine pt_tok (T := 3) (t := 1) (by omega) (by omega) (br_t rfl ?_)
    refine ⟨5, pt_179 (a7 := upd (upd (upd (upd a7 0 (nI 21)) 1 (nI 0)) 2 (nI 20)) 3 (nI 1)) hN G H 4 0 (by omega) _ _ _ _ _ _ _ _ _ _ _ _ _ _ _ _ _ _ _ _ _ _ _ _ _ (Or.inl ⟨rfl, rfl, rfl⟩) ?_⟩
    exact fun ψ Hψ => pt_comp1 rfl rfl rfl rfl (fun ce a8 a9 a10 a11 a12 hC => Hψ _ _ _ _ _ _ _ _ _ _ _ _ _ hC)
  | succ d ih =>
    intro K hK made N sy lf rt ld pc cp wh vs ce a1 a2 a3 a4 a5 a6 a7 a8 a9 a10 a11 a12 a13 a14 a15 a16 hN G
    have hK16 : K < 16 := by omega
    obtain ⟨⟨n1, n2⟩, G2, G3, _⟩ := id G
    have eb : ((w >>> (nI K &&& 31)) &&& 1 = 1) ↔ pt_bw w K = true := decide_eq_true_iff.symm
    refine pk_le 16 K (fun z => absurd z (by omega)) (fun _ => ek_if eb (fun h => ?_) (fun h => ?_))
    · rw [pt_sh2 hK16, pt_an3 hK16]
      refine pt_two G2 (by omega) (by omega) (by omega) (fun m hm => ⟨ld m, by have := (G3 m hm).2.1; omega, (G3 m hm).1⟩) (pt_G_fresh G) (fun b4 hj hn => ?_)
      obtain ⟨ld', G'⟩ := pt_G_add G h hK16 hj hn
      have e4 : nI N = 4 + nI made := by rw [hN]; exact (nI_add 4 made).symm
      exact br_t e4 (nm_r (nI_1 made) (nm_r (nI_1 K) (ih (K + 1) (by omega) (made + 1) (N + 1) _ _ _ ld' _ _ _ _ _ _ _ _ _ _ _ _ _ _ _ _ _ _ _ _ _ (by omega) G')))
    · exact nm_r (nI_1 K) (ih (K + 1) (by omega) made N sy lf rt ld _ _ _ _ _ _ _ _ _ _ _ _ _ _ _ _ _ _ _ _ _ hN (pt_G_skip G (Bool.eq_false_iff.mpr h)))
/-! the first four nodes -/
def pt_sy0 : Nat → Nat := pt_set (pt_set (pt_set (pt_set (fun _ => 0) 0 0) 1 0) 2 20) 3 20
def pt_lf0 : Nat → Nat := pt_set (pt_set (pt_set (pt_set (fun _ => 0) 0 0) 1 1) 2 0) 3 2
def pt_rt0 : Nat → Nat := pt_set (pt_set (pt_set (pt_set (fun _ => 0) 0 0) 1 0) 2 0) 3 0
theorem pt_K0 : pt_K 0 (fun _ => 0) (fun _ => 0) (fun _ => 0) (fun _ => 0) (fun _ => 0) (fun _ => 0) := fun n h => absurd h (Nat.not_lt_zero n)
theorem pt_G0 (K : pt_K 4 pt_sy0 pt_lf0 pt_rt0 a1 a2 a3) (h : ∀ n, n < 4 → a4 n = nI (pt_l4 c n)) : pt_G (pt_bw w) c 0 4 pt_sy0 pt_lf0 pt_rt0 (pt_l4 c) a1 a2 a3 a4 := by
  refine ⟨⟨by omega, by omega⟩, K, fun n hn => ⟨h n hn, ?_, ?_⟩, ⟨rfl, rfl, rfl, rfl⟩, ⟨rfl, rfl⟩, fun n hn => ?_, fun n h1 h2 => absurd h2 (by omega), fun k hk => absurd hk (by omega)⟩
  · have := pt_l4_le c n
    omega
  · cases c with
    | false => rw [pt_l4_f, pt_l4_f]
    | true => exact pt_l4_lo (pt_l4_3 hn)
  · exact co_4 (P := fun n => pt_lf0 n < 4 ∧ pt_rt0 n < 4 ∧ pt_l4 c n = pt_l4 c n) ⟨by decide, by decide, rfl⟩ ⟨by decide, by decide, rfl⟩ ⟨by decide, by decide, rfl⟩ ⟨by decide, by decide, rfl⟩ hn
def pt_ar (l : Nat → Nat) : Nat → Int32 := upd (upd (upd (upd (fun _ => 0) 0 (nI (l 0))) 1 (nI (l 1))) 2 (nI (l 2))) 3 (nI (l 3))
theorem pt_57 (K : pt_K 4 pt_sy0 pt_lf0 pt_rt0 a1 a2 a3) (h0 : a4 0 = nI 0) (h1 : a4 1 = nI 1) (h2 : a4 2 = nI 2) (h3 : a4 3 = nI 3) (hc : ∀ m n, m < n → n < 4 → ¬ upd a4 3 (nI 0) m = upd a4 3 (nI 0) n → ¬ pt_cong (upd a4 3 (nI 0)) pt_sy0 pt_lf0 pt_rt0 m n) (H : post 1 ()) : wL_lawOf_57 post mc ms w (pt_i c) kc ks (nI 4) pc 0 cp wh vs ce a1 a2 a3 a4 a5 a6 a7 a8 a9 a10 a11 a12 a13 a14 a15 a16 := by
  cases c with
  | false =>
    have G := pt_G0 (c := false) (w := w) (a4 := a4) K (fun n hn => co_4 (P := fun n => a4 n = nI (pt_l4 false n)) h0 h1 h2 h3 hn)
    exact br_t rfl ⟨17, pt_80 (c := false) H 16 0 (by omega) 0 4 _ _ _ _ _ _ _ _ _ _ _ _ _ _ _ _ _ _ _ _ _ _ _ _ _ rfl G⟩
  | true =>
    refine br_f (by decide) (pt_equate K h0 h1 h2 h3 hc (fun b5 b6 => br_t rfl ?_))
    have G := pt_G0 (c := true) (w := w) (a4 := upd a4 3 (nI 0)) K (fun n hn => co_4 (P := fun n => upd a4 3 (nI 0) n = nI (pt_l4 true n)) h0 h1 h2 rfl hn)
    exact ⟨17, pt_80 (c := true) H 16 0 (by omega) 0 4 _ _ _ _ _ _ _ _ _ _ _ _ _ _ _ _ _ _ _ _ _ _ _ _ _ rfl G⟩
theorem pt_law (w t : Int32) : wpL_lawOf (fun r _ => r = 1) 244 3904 () w t := by
  refine ⟨by omega, by omega, 16, 667, by omega, by omega, ?_⟩
  refine ⟨by omega, by omega, by omega, by omega, by omega, by omega, by omega, by omega, by omega, by omega, by omega, by omega, by omega, by omega, by omega, by omega, by omega, by omega, by omega, by omega, by omega, by omega, by omega, by omega, by omega, by omega, by omega, by omega, by omega, by omega, by omega, by omega, ?_⟩
  have K1 := pt_K_add (s := 0) (x := 0) (y := 0) pt_K0 (by omega) (by omega) (by omega)
  have K2 := pt_K_add (s := 0) (x := 1) (y := 0) K1 (by omega) (by omega) (by omega)
  have K3 := pt_K_add (s := 20) (x := 0) (y := 0) K2 (by omega) (by omega) (by omega)
  have K4 := pt_K_add (s := 20) (x := 2) (y := 0) K3 (by omega) (by omega) (by omega)
  refine pt_constant (N := 0) (k := 0) pt_K0 (by omega) (by omega) (fun m h => absurd h (by omega)) (fun m h => absurd h (by omega)) (br_t rfl ?_)
  refine pt_constant (N := 1) (k := 1) K1 (by omega) (by omega) (fun m h => ⟨0, by omega, by rw [show m = 0 by omega]; rfl⟩) (fun m h => by rw [show m = 0 by omega]; decide) (br_t rfl ?_)
  refine pt_one (N := 2) (x := 0) K2 (by omega) (by omega) (fun m h => co_2 (P := fun m => ∃ l, l < 20 ∧ upd (upd (fun _ => 0) 0 (nI 0)) 1 (nI 1) m = nI l) ⟨0, by omega, rfl⟩ ⟨1, by omega, rfl⟩ h) (by decide) (fun m h q => ?_) (br_t rfl ?_)
  · exact absurd q.1 (co_2 (P := fun m => ¬ pt_set (pt_set (pt_set (fun _ => 0) 0 0) 1 0) 2 20 m = pt_set (pt_set (pt_set (fun _ => 0) 0 0) 1 0) 2 20 2) (by decide) (by decide) h)
  refine pt_one (N := 3) (x := 2) K3 (by omega) (by omega) (fun m h => co_3 (P := fun m => ∃ l, l < 20 ∧ upd (upd (upd (fun _ => 0) 0 (nI 0)) 1 (nI 1)) 2 (nI 2) m = nI l) ⟨0, by omega, rfl⟩ ⟨1, by omega, rfl⟩ ⟨2, by omega, rfl⟩ h) (by decide) (fun m h q => ?_) (br_t rfl ?_)
  · have e : m = 0 ∨ m = 1 ∨ m = 2 := by omega
    rcases e with e | e | e
    · subst e; exact absurd q.1 (by decide)
    · subst e; exact absurd q.1 (by decide)
    · subst e; exact absurd q.2.2.1 (by decide)
  have hc : ∀ m n, m < n → n < 4 → ¬ upd (upd (upd (upd (upd (fun _ => 0) 0 (nI 0)) 1 (nI 1)) 2 (nI 2)) 3 (nI 3)) 3 (nI 0) m = upd (upd (upd (upd (upd (fun _ => 0) 0 (nI 0)) 1 (nI 1)) 2 (nI 2)) 3 (nI 3)) 3 (nI 0) n → ¬ pt_cong (upd (upd (upd (upd (upd (fun _ => 0) 0 (nI 0)) 1 (nI 1)) 2 (nI 2)) 3 (nI 3)) 3 (nI 0)) pt_sy0 pt_lf0 pt_rt0 m n := by
    intro m n h1 h2
    have d : ∀ n, n < 4 → ∀ m, m < n → ¬ upd (upd (upd (upd (upd (fun _ => 0) 0 (nI 0)) 1 (nI 1)) 2 (nI 2)) 3 (nI 3)) 3 (nI 0) m = upd (upd (upd (upd (upd (fun _ => 0) 0 (nI 0)) 1 (nI 1)) 2 (nI 2)) 3 (nI 3)) 3 (nI 0) n → ¬ (pt_sy0 m = pt_sy0 n ∧ pt_sy0 m ≠ 0 ∧ upd (upd (upd (upd (upd (fun _ => 0) 0 (nI 0)) 1 (nI 1)) 2 (nI 2)) 3 (nI 3)) 3 (nI 0) (pt_lf0 m) = upd (upd (upd (upd (upd (fun _ => 0) 0 (nI 0)) 1 (nI 1)) 2 (nI 2)) 3 (nI 3)) 3 (nI 0) (pt_lf0 n) ∧ (pt_sy0 m = 20 ∨ upd (upd (upd (upd (upd (fun _ => 0) 0 (nI 0)) 1 (nI 1)) 2 (nI 2)) 3 (nI 3)) 3 (nI 0) (pt_rt0 m) = upd (upd (upd (upd (upd (fun _ => 0) 0 (nI 0)) 1 (nI 1)) 2 (nI 2)) 3 (nI 3)) 3 (nI 0) (pt_rt0 n))) := by decide +kernel
    exact d n h2 m h1
  refine br_c (fun _ => ?_) (fun _ => ?_)
  · exact pt_57 (c := true) K4 rfl rfl rfl rfl hc rfl
  · exact pt_57 (c := false) K4 rfl rfl rfl rfl hc rfl
end
theorem i_vc (xs : Nat → Int32) (L : Nat) (hL : L ≤ 2) : wpL_law (fun r => r = 1) L xs := by
  have Z : ∀ w t : Int32, ∃ mc_4 ms_5 : Nat, 0 + mc_4 ≤ 244 ∧ 0 + ms_5 ≤ 3904 ∧ wpL_lawOf (fun r_3 _ => r_3 = 1) mc_4 ms_5 () w t := fun w t => ⟨244, 3904, by omega, by omega, pt_law w t⟩
  exact pk_le L 0 (fun _ => pk_le L 1 (fun _ => Z 0 0) (fun h => ⟨pk_in 1 L h, Z 0 _⟩)) (fun h0 => ⟨pk_in 0 L h0, pk_le L 1 (fun _ => Z _ 0) (fun h => ⟨pk_in 1 L h, Z _ _⟩)⟩)
end
