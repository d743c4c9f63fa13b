section
/-! rows taken out of the kit's rows to paste (starting text) -/
theorem pk_us {f : Nat → Int32} {k : Nat} {x : Int32} : upd f k x k = x := if_pos rfl
theorem pk_un {f : Nat → Int32} {k j : Nat} {x : Int32} (h : j ≠ k) : upd f k x j = f j := if_neg h
theorem pk_sub {a b : Nat} (h : b ≤ a) : nI a - nI b = nI (a - b) := by
  obtain ⟨c, rfl⟩ : ∃ c, a = c + b := ⟨a - b, by omega⟩
  rw [← nI_add, Int32.add_sub_cancel, Nat.add_sub_cancel]
theorem pk_m1 (n : Nat) : nI (n + 1) + (-1) = nI n := by
  rw [← nI_1, Int32.add_assoc, show (1 : Int32) + (-1) = 0 from rfl, Int32.add_zero]
theorem pk_mul (a b : Nat) : nI a * nI b = nI (a * b) := (Int32.ofNat_mul a b).symm
theorem pk_div {a d : Nat} (ha : a < 2 ^ 31) (h0 : 0 < d) (hd : d < 2 ^ 31) : nI a / nI d = nI (a / d) := by
  apply Int32.toInt_inj.mp
  rw [lg_idiv_nonneg (by rw [nI_toInt ha]; omega) (by rw [nI_toInt hd]; omega), nI_toInt ha, nI_toInt hd, nI_toInt (Nat.lt_of_le_of_lt (Nat.div_le_self a d) ha)]
  first | rfl | exact (Int.natCast_ediv _ _).symm
theorem pk_rem {a d : Nat} (ha : a < 2 ^ 31) (h0 : 0 < d) (hd : d < 2 ^ 31) : nI a - nI a / nI d * nI d = nI (a % d) := by
  rw [pk_div ha h0 hd, pk_mul, pk_sub (Nat.div_mul_le_self a d)]
  exact congrArg nI (by have := Nat.div_add_mod' a d; omega)
theorem pk_ix (x : Int32) {n : Nat} (hn : n < 2 ^ 31) : x < 0 ∨ nI n ≤ x ∨ ∃ j : Nat, j < n ∧ x = nI j := by
  by_cases h : x < 0
  · exact Or.inl h
  · obtain ⟨j, hj, rfl⟩ := nI_of h
    by_cases h2 : j < n
    · exact Or.inr (Or.inr ⟨j, h2, rfl⟩)
    · exact Or.inr (Or.inl (nI_le (by omega) hj))
theorem pk_le {x y : Int32} {A B : Prop} (a b : Nat) (f : a ≤ b → A) (g : b < a → B) (hx : x = nI a := by rfl) (hy : y = nI b := by rfl) (ha : a < 2 ^ 31 := by omega) (hb : b < 2 ^ 31 := by omega) : (x ≤ y → A) ∧ (¬ x ≤ y → B) := by
  subst hx hy
  rw [nI_leI ha hb]
  exact ⟨f, fun z => g (by omega)⟩
theorem pk_lt {x y : Int32} {A B : Prop} (a b : Nat) (f : a < b → A) (g : b ≤ a → B) (hx : x = nI a := by rfl) (hy : y = nI b := by rfl) (ha : a < 2 ^ 31 := by omega) (hb : b < 2 ^ 31 := by omega) : (x < y → A) ∧ (¬ x < y → B) := by
  subst hx hy
  rw [nI_ltI ha hb]
  exact ⟨f, fun z => g (by omega)⟩
theorem pk_eq {x y : Int32} {A B : Prop} (a b : Nat) (f : a = b → A) (g : a ≠ b → B) (hx : x = nI a := by rfl) (hy : y = nI b := by rfl) (ha : a < 2 ^ 31 := by omega) (hb : b < 2 ^ 31 := by omega) : (x = y → A) ∧ (¬ x = y → B) := by
  subst hx hy
  rw [nI_eq ha hb]
  exact ⟨f, g⟩
theorem pk_in {x : Int32} (n N : Nat) (h : n < N) (hx : x = nI n := by rfl) (hN : N < 2 ^ 31 := by omega) : vp_in x N := by
  subst hx
  exact vp_in_nI h hN
theorem pk_cl {x : Int32} (n : Nat) (hx : x = nI n := by rfl) (h : n < 2 ^ 31 := by omega) : x.toNatClampNeg = n := by
  subst hx
  exact nI_clamp h
theorem pk_tn {n : Nat} (h : n < 2 ^ 32) : (nI n).toBitVec.toNat = n := Nat.mod_eq_of_lt h
theorem pk_and (x : Int32) {m : Int32} (k : Nat) (hm : m.toBitVec.toNat = 2 ^ k - 1) : x &&& m = nI (x.toBitVec.toNat % 2 ^ k) := by
  apply Int32.toBitVec_inj.mp
  apply BitVec.eq_of_toNat_eq
  rw [Int32.toBitVec_and, BitVec.toNat_and, hm, Nat.and_two_pow_sub_one_eq_mod]
  show _ = (BitVec.ofNat 32 _).toNat
  rw [BitVec.toNat_ofNat]
  exact (Nat.mod_eq_of_lt (Nat.lt_of_le_of_lt (Nat.mod_le _ _) x.toBitVec.isLt)).symm
theorem pk_andN {n : Nat} (h : n < 2 ^ 32) {m : Int32} (k : Nat) (hm : m.toBitVec.toNat = 2 ^ k - 1) : nI n &&& m = nI (n % 2 ^ k) := by
  rw [pk_and _ k hm, pk_tn h]
theorem pk_shr (a s : Int32) (k : Nat) (hs : (s.toBitVec.smod 32).toNat = k) : (a >>> s).toInt = a.toInt >>> k := by
  show (a.toBitVec.sshiftRight (s.toBitVec.smod 32).toNat).toInt = _
  rw [hs, BitVec.toInt_sshiftRight]
  rfl
theorem pk_shrN {n : Nat} (h : n < 2 ^ 31) (s : Int32) (k : Nat) (hs : (s.toBitVec.smod 32).toNat = k) : nI n >>> s = nI (n / 2 ^ k) := by
  apply Int32.toInt_inj.mp
  have h2 : n / 2 ^ k ≤ n := Nat.div_le_self _ _
  rw [pk_shr _ _ k hs, nI_toInt h, nI_toInt (by omega), Int.shiftRight_eq_div_pow]
  rfl
theorem pk_vb (z : Int32) : vp_nar .byte z.toInt8.toInt32 = z.toInt8.toInt32 := by rw [vp_nar_byte]; simp
theorem pk_vs (z : Int32) : vp_nar .short z.toInt16.toInt32 = z.toInt16.toInt32 := by rw [vp_nar_short]; simp
theorem pk_loop {σ : Type} (W : Nat → Nat → σ → Prop) (I : Nat → σ → Prop) (e i0 : Nat) (s : σ) (hi : i0 ≤ e) (h0 : I i0 s) (hx : ∀ n s, I e s → W (n + 1) e s)
    (hs : ∀ n i s, i < e → I i s → (∀ s', I (i + 1) s' → W n (i + 1) s') → W (n + 1) i s) : ∃ n, W n i0 s :=
  ⟨e + 1, loop_i W I e hx hs (e + 1) i0 s hi (by omega) h0⟩
theorem ek_if {c d A B : Prop} (e : c ↔ d) (f : d → A) (g : ¬ d → B) : (c → A) ∧ (¬ c → B) :=
  ⟨fun z => f (e.mp z), fun z => g (fun y => z (e.mpr y))⟩
theorem ek_v {α : Sort _} {P : α → Prop} {a b : α} (e : a = b) (h : P b) : P a := e ▸ h
def bt (x : Int32) (i : Nat) : Bool := x.toBitVec.getLsbD i
theorem b_ext {x y : Int32} (h : ∀ i, i < 32 → bt x i = bt y i) : x = y := Int32.toBitVec_inj.mp (BitVec.eq_of_getLsbD_eq (fun i hi => h i hi))
theorem b_or (x y : Int32) (i : Nat) : bt (x ||| y) i = (bt x i || bt y i) := by unfold bt; rw [Int32.toBitVec_or, BitVec.getLsbD_or]
theorem b_and (x y : Int32) (i : Nat) : bt (x &&& y) i = (bt x i && bt y i) := by unfold bt; rw [Int32.toBitVec_and, BitVec.getLsbD_and]
theorem b_xor (x y : Int32) (i : Nat) : bt (x ^^^ y) i = (bt x i ^^ bt y i) := by unfold bt; rw [Int32.toBitVec_xor, BitVec.getLsbD_xor]
theorem b_big {x : Int32} {i : Nat} (h : 32 ≤ i) : bt x i = false := BitVec.getLsbD_of_ge _ _ h
theorem b_m1 : ∀ i, i < 32 → bt (-1) i = true := by decide +kernel
theorem b_0 (i : Nat) : bt 0 i = false := BitVec.getLsbD_zero
theorem s_l : ∀ n, n < 32 → ((nI n &&& 31).toBitVec.smod 32).toNat = n := by decide +kernel
theorem b_shl (n : Nat) (hn : n < 32) (x : Int32) {i : Nat} (hi : i < 32) : bt (x <<< (nI n &&& 31)) i = (decide (n ≤ i) && bt x (i - n)) := by
  unfold bt
  rw [Int32.toBitVec_shiftLeft]
  show (x.toBitVec <<< ((nI n &&& 31).toBitVec.smod 32).toNat).getLsbD i = _
  rw [s_l n hn, BitVec.getLsbD_shiftLeft]
  rcases Nat.lt_or_ge i n with h | h
  · simp [h, Nat.not_le.mpr h]
  · simp [hi, h, Nat.not_lt.mpr h]
theorem b_sshr (n : Nat) (hn : n < 32) (x : Int32) {i : Nat} (hi : i < 32) : bt (x >>> (nI n &&& 31)) i = if n + i < 32 then bt x (n + i) else bt x 31 := by
  unfold bt
  rw [Int32.toBitVec_shiftRight]
  show (x.toBitVec.sshiftRight ((nI n &&& 31).toBitVec.smod 32).toNat).getLsbD i = _
  rw [s_l n hn, BitVec.getLsbD_sshiftRight, BitVec.msb_eq_getLsbD_last]
  simp [hi]
/-! own rows: sets of blocks as the bits 0 .. 5 of an Int32 -/
def zw_S (x : Int32) : Prop := ∀ i, 6 ≤ i → bt x i = false
theorem zw_ext {x y : Int32} (hx : zw_S x) (hy : zw_S y) (h : ∀ i, i < 6 → bt x i = bt y i) : x = y := by
  apply b_ext
  intro i _
  rcases Nat.lt_or_ge i 6 with h6 | h6
  · exact h i h6
  · rw [hx i h6, hy i h6]
theorem zw_one : ∀ n, n < 32 → ∀ i, i < 32 → bt ((1 : Int32) <<< (nI n &&& 31)) i = decide (i = n) := by decide +kernel
theorem zw_one' {n : Nat} (hn : n < 32) (i : Nat) : bt ((1 : Int32) <<< (nI n &&& 31)) i = decide (i = n) := by
  rcases Nat.lt_or_ge i 32 with h | h
  · exact zw_one n hn i h
  · rw [b_big h, decide_eq_false (by omega)]
theorem zw_not {x : Int32} {i : Nat} (hi : i < 32) : bt (x ^^^ (-1)) i = !(bt x i) := by
  rw [b_xor, b_m1 i hi]; cases bt x i <;> rfl
theorem zw_a1 (y : Int32) : (y &&& 1) = 0 ↔ bt y 0 = false := by
  have h1 : ∀ i, i < 32 → bt (1 : Int32) i = decide (i = 0) := by decide +kernel
  constructor
  · intro h
    have h2 := b_and y 1 0
    rw [h, b_0, h1 0 (by decide)] at h2
    cases hb : bt y 0
    · rfl
    · rw [hb] at h2; exact absurd h2 (by decide)
  · intro h
    apply b_ext
    intro i hi
    rw [b_and, h1 i hi, b_0]
    by_cases h0 : i = 0
    · subst h0; rw [h]; rfl
    · rw [decide_eq_false h0, Bool.and_false]
theorem zw_a1' (y : Int32) : (y &&& 1) = 1 ↔ bt y 0 = true := by
  have h1 : ∀ i, i < 32 → bt (1 : Int32) i = decide (i = 0) := by decide +kernel
  constructor
  · intro h
    cases hb : bt y 0
    · rw [(zw_a1 y).mpr hb] at h; exact absurd h (by decide)
    · rfl
  · intro h
    apply b_ext
    intro i hi
    rw [b_and, h1 i hi]
    by_cases h0 : i = 0
    · subst h0; rw [h]; rfl
    · rw [decide_eq_false h0, Bool.and_false]
theorem zw_in {x : Int32} {n : Nat} (hn : n < 32) : ((x >>> (nI n &&& 31)) &&& 1) = 0 ↔ bt x n = false := by
  rw [zw_a1, b_sshr n hn x (by decide), if_pos (by omega)]; rfl
theorem zw_in1 {x : Int32} {n : Nat} (hn : n < 32) : ((x >>> (nI n &&& 31)) &&& 1) = 1 ↔ bt x n = true := by
  rw [zw_a1', b_sshr n hn x (by decide), if_pos (by omega)]; rfl
theorem zw_bit {x : Int32} {n : Nat} (hn : n < 32) : ((x >>> (nI n &&& 31)) &&& 1) = if bt x n = true then 1 else 0 := by
  cases h : bt x n
  · rw [(zw_in hn).mpr h]; rfl
  · rw [(zw_in1 hn).mpr h]; rfl
theorem zw_S0 : zw_S 0 := fun i _ => b_0 i
theorem zw_Sone {n : Nat} (hn : n < 6) : zw_S ((1 : Int32) <<< (nI n &&& 31)) := fun i hi => by
  rw [zw_one' (by omega), decide_eq_false (by omega)]
theorem zw_S1 : zw_S 1 := zw_Sone (n := 0) (by decide)
theorem zw_b1 (i : Nat) : bt 1 i = decide (i = 0) := zw_one' (n := 0) (by decide) i
theorem zw_Sor {x y : Int32} (hx : zw_S x) (hy : zw_S y) : zw_S (x ||| y) := fun i hi => by
  rw [b_or, hx i hi, hy i hi]; rfl
theorem zw_Sand {x y : Int32} (hx : zw_S x) : zw_S (x &&& y) := fun i hi => by
  rw [b_and, hx i hi]; rfl
theorem zw_zero {x : Int32} (hx : zw_S x) : x = 0 ↔ ∀ i, i < 6 → bt x i = false := by
  constructor
  · intro h i _; rw [h, b_0]
  · intro h; exact zw_ext hx zw_S0 (fun i hi => by rw [h i hi, b_0])
theorem zw_nz {x : Int32} (hx : zw_S x) : ¬ x = 0 ↔ ∃ i, i < 6 ∧ bt x i = true := by
  constructor
  · intro h
    apply Classical.byContradiction
    intro h2
    apply h
    apply (zw_zero hx).mpr
    intro i hi
    cases hb : bt x i
    · rfl
    · exact absurd ⟨i, hi, hb⟩ h2
  · rintro ⟨i, _, hb⟩ h
    rw [h, b_0] at hb
    exact absurd hb (by decide)
theorem zw_64 {x : Int32} (hx : zw_S x) : ∃ m : Nat, m < 64 ∧ x = nI m := by
  have h : x = nI (x.toBitVec.toNat % 2 ^ 6) := by
    rw [← pk_and x (m := 63) 6 (by decide)]
    have h63 : ∀ i, i < 32 → bt (63 : Int32) i = decide (i < 6) := by decide +kernel
    apply b_ext
    intro i hi
    rw [b_and, h63 i hi]
    rcases Nat.lt_or_ge i 6 with h6 | h6
    · rw [decide_eq_true h6, Bool.and_true]
    · rw [hx i h6]; rfl
  exact ⟨_, Nat.mod_lt _ (by decide), h⟩
theorem zw_n64 : ∀ m, m < 64 → (nI m).toInt16.toInt32 = nI m := by decide +kernel
theorem zw_nar {x : Int32} (hx : zw_S x) : vp_nar .short x.toInt16.toInt32 = x := by
  obtain ⟨m, hm, rfl⟩ := zw_64 hx
  rw [pk_vs, zw_n64 m hm]
theorem zw_nar1 {x : Int32} (hx : zw_S x) : x.toInt16.toInt32 = x := by
  obtain ⟨m, hm, rfl⟩ := zw_64 hx
  exact zw_n64 m hm
theorem zw_nar2 {x : Int32} (hx : zw_S x) : vp_nar .short x = x := by
  rw [vp_nar_short, zw_nar1 hx]
theorem zw_n8 : ∀ m, m < 64 → (nI m).toInt8.toInt32 = nI m := by decide +kernel
theorem zw_nar8 {m : Nat} (hm : m < 64) : vp_nar .byte (nI m).toInt8.toInt32 = nI m := by
  rw [pk_vb, zw_n8 m hm]
theorem zw_tf {b : Bool} (h : ¬ b = true) : b = false := by cases b <;> first | rfl | exact absurd rfl h
theorem zw_ft {b : Bool} (h : ¬ b = false) : b = true := by cases b <;> first | rfl | exact absurd rfl h
/-! branches -/
theorem zw_6 {i : Nat} (hi : i < 6) : ¬ (6 : Int32) ≤ nI i := nI_ge (b := 6) hi (by decide)
theorem zw_66 : (6 : Int32) ≤ nI 6 := by decide
theorem zw_i6 {i : Nat} (hi : i < 6) : vp_in (nI i) 6 := vp_in_nI hi (by decide)
theorem zw_c6 {i : Nat} (hi : i < 6) : (nI i).toNatClampNeg = i := nI_clamp (by omega)
theorem zx_in {x : Int32} {n : Nat} (hn : n < 32) {A B : Prop} (h0 : bt x n = false → A) (h1 : bt x n = true → B) :
    wpX_in (fun r => (r = 0 → A) ∧ (¬ r = 0 → B)) x (nI n) :=
  ⟨fun h => br_t rfl (h0 ((zw_in hn).mp h)), fun h => br_f (by decide) (h1 (zw_ft (fun z => h ((zw_in hn).mpr z))))⟩
theorem zx_blk {n : Nat} (hn : n < 6) {A B : Prop} (h1 : B) : wpX_isBlock (fun r => (r = 0 → A) ∧ (¬ r = 0 → B)) (nI n) :=
  br_f (nI_pos (by omega)) (br_f (zw_6 hn) (br_f (by decide) h1))
theorem zx_nblk {p : Int32} (hp : p < 0 ∨ (6 : Int32) ≤ p) {A B : Prop} (h0 : A) : wpX_isBlock (fun r => (r = 0 → A) ∧ (¬ r = 0 → B)) p := by
  by_cases h : p < 0
  · exact br_t h (br_t rfl h0)
  · exact br_f h (br_t (hp.resolve_left h) (br_t rfl h0))
theorem zw_blk (p : Int32) : (p < 0 ∨ (6 : Int32) ≤ p) ∨ ∃ j : Nat, j < 6 ∧ p = nI j := by
  rcases pk_ix p (n := 6) (by decide) with h | h | h
  · exact Or.inl (Or.inl h)
  · exact Or.inl (Or.inr h)
  · exact Or.inr h
theorem zw_or {x y : Int32} {i : Nat} : bt (x ||| y) i = true ↔ bt x i = true ∨ bt y i = true := by
  rw [b_or, Bool.or_eq_true]
theorem zw_and {x y : Int32} {i : Nat} : bt (x &&& y) i = true ↔ bt x i = true ∧ bt y i = true := by
  rw [b_and, Bool.and_eq_true]
theorem zw_add {x : Int32} {n i : Nat} (hn : n < 32) : bt (x ||| ((1 : Int32) <<< (nI n &&& 31))) i = true ↔ bt x i = true ∨ i = n := by
  rw [zw_or, zw_one' hn, decide_eq_true_eq]
theorem zw_mem {x : Int32} (hx : zw_S x) {i : Nat} (h : bt x i = true) : i < 6 := by
  rcases Nat.lt_or_ge i 6 with h6 | h6
  · exact h6
  · rw [hx i h6] at h; exact absurd h (by decide)
end
section
/-! counts of blocks -/
noncomputable def zw_b (p : Prop) : Nat := @ite Nat p (Classical.propDecidable p) 1 0
theorem zw_bt {p : Prop} (h : p) : zw_b p = 1 := by unfold zw_b; exact if_pos h
theorem zw_bf {p : Prop} (h : ¬ p) : zw_b p = 0 := by unfold zw_b; exact if_neg h
theorem zw_ble (p : Prop) : zw_b p ≤ 1 := by
  by_cases h : p
  · rw [zw_bt h]; exact Nat.le_refl 1
  · rw [zw_bf h]; exact Nat.zero_le 1
theorem zw_bm {p q : Prop} (h : p → q) : zw_b p ≤ zw_b q := by
  by_cases hp : p
  · rw [zw_bt hp, zw_bt (h hp)]; exact Nat.le_refl 1
  · rw [zw_bf hp]; exact Nat.zero_le _
noncomputable def zw_n (P : Nat → Prop) : Nat := zw_b (P 0) + zw_b (P 1) + zw_b (P 2) + zw_b (P 3) + zw_b (P 4) + zw_b (P 5)
theorem zw_6c {k : Nat} (h : k < 6) : k = 0 ∨ k = 1 ∨ k = 2 ∨ k = 3 ∨ k = 4 ∨ k = 5 := by omega
theorem zw_nm {P Q : Nat → Prop} (h : ∀ i, i < 6 → P i → Q i) : zw_n P ≤ zw_n Q := by
  have h0 := zw_bm (h 0 (by decide))
  have h1 := zw_bm (h 1 (by decide))
  have h2 := zw_bm (h 2 (by decide))
  have h3 := zw_bm (h 3 (by decide))
  have h4 := zw_bm (h 4 (by decide))
  have h5 := zw_bm (h 5 (by decide))
  unfold zw_n
  omega
theorem zw_ns {P Q : Nat → Prop} (h : ∀ i, i < 6 → P i → Q i) {k : Nat} (hk : k < 6) (hq : Q k) (hp : ¬ P k) : zw_n P < zw_n Q := by
  have h0 := zw_bm (h 0 (by decide))
  have h1 := zw_bm (h 1 (by decide))
  have h2 := zw_bm (h 2 (by decide))
  have h3 := zw_bm (h 3 (by decide))
  have h4 := zw_bm (h 4 (by decide))
  have h5 := zw_bm (h 5 (by decide))
  have e1 := zw_bt hq
  have e0 := zw_bf hp
  unfold zw_n
  rcases zw_6c hk with rfl | rfl | rfl | rfl | rfl | rfl <;> omega
theorem zw_ne {P Q : Nat → Prop} (h : ∀ i, i < 6 → (P i ↔ Q i)) : zw_n P = zw_n Q :=
  Nat.le_antisymm (zw_nm (fun i hi => (h i hi).mp)) (zw_nm (fun i hi => (h i hi).mpr))
theorem zw_n6 (P : Nat → Prop) : zw_n P ≤ 6 := by
  have h0 := zw_ble (P 0)
  have h1 := zw_ble (P 1)
  have h2 := zw_ble (P 2)
  have h3 := zw_ble (P 3)
  have h4 := zw_ble (P 4)
  have h5 := zw_ble (P 5)
  unfold zw_n
  omega
theorem zw_na {P Q : Nat → Prop} {k : Nat} (hk : k < 6) (hp : ¬ P k) (h : ∀ i, i < 6 → (Q i ↔ P i ∨ i = k)) : zw_n Q = zw_n P + 1 := by
  have ex : ∀ i, i < 6 → i ≠ k → zw_b (Q i) = zw_b (P i) := by
    intro i hi hk
    by_cases hpi : P i
    · rw [zw_bt hpi, zw_bt ((h i hi).mpr (Or.inl hpi))]
    · rw [zw_bf hpi, zw_bf (fun hq => hpi (((h i hi).mp hq).resolve_right hk))]
  have e1 := zw_bt ((h k hk).mpr (Or.inr rfl))
  have e0 := zw_bf hp
  have h0 := ex 0 (by decide)
  have h1 := ex 1 (by decide)
  have h2 := ex 2 (by decide)
  have h3 := ex 3 (by decide)
  have h4 := ex 4 (by decide)
  have h5 := ex 5 (by decide)
  unfold zw_n
  rcases zw_6c hk with rfl | rfl | rfl | rfl | rfl | rfl
  · rw [h1 (by decide), h2 (by decide), h3 (by decide), h4 (by decide), h5 (by decide)]; omega
  · rw [h0 (by decide), h2 (by decide), h3 (by decide), h4 (by decide), h5 (by decide)]; omega
  · rw [h0 (by decide), h1 (by decide), h3 (by decide), h4 (by decide), h5 (by decide)]; omega
  · rw [h0 (by decide), h1 (by decide), h2 (by decide), h4 (by decide), h5 (by decide)]; omega
  · rw [h0 (by decide), h1 (by decide), h2 (by decide), h3 (by decide), h5 (by decide)]; omega
  · rw [h0 (by decide), h1 (by decide), h2 (by decide), h3 (by decide), h4 (by decide)]; omega
theorem zw_n0 {P : Nat → Prop} (h : ∀ i, i < 6 → ¬ P i) : zw_n P = 0 := by
  unfold zw_n
  rw [zw_bf (h 0 (by decide)), zw_bf (h 1 (by decide)), zw_bf (h 2 (by decide)), zw_bf (h 3 (by decide)), zw_bf (h 4 (by decide)), zw_bf (h 5 (by decide))]
/-! a growing sequence of sets of blocks stands still at 6 -/
theorem zw_sat (P : Nat → Nat → Prop) (h6 : ∀ n b, P n b → b < 6) (hm : ∀ n b, P n b → P (n + 1) b)
    (hst : ∀ n, (∀ b, P (n + 1) b → P n b) → ∀ b, P (n + 2) b → P (n + 1) b) : ∀ n b, P n b → P 6 b := by
  have grow : ∀ n, ¬ (∀ b, P (n + 1) b → P n b) → zw_n (P n) < zw_n (P (n + 1)) := by
    intro n h
    obtain ⟨b, hb⟩ := Classical.not_forall.mp h
    have h1 : P (n + 1) b := Classical.byContradiction fun z => hb (fun y => absurd y z)
    have h0 : ¬ P n b := fun z => hb (fun _ => z)
    exact zw_ns (fun i _ => hm n i) (h6 _ _ h1) h1 h0
  have key : ∀ n, (∀ b, P (n + 1) b → P n b) ∨ n + 1 ≤ zw_n (P (n + 1)) := by
    intro n
    induction n with
    | zero =>
      by_cases h : ∀ b, P (0 + 1) b → P 0 b
      · exact Or.inl h
      · exact Or.inr (by have := grow 0 h; omega)
    | succ n ih =>
      rcases ih with ih | ih
      · exact Or.inl (hst n ih)
      · by_cases h : ∀ b, P (n + 1 + 1) b → P (n + 1) b
        · exact Or.inl h
        · exact Or.inr (by have := grow (n + 1) h; omega)
  have st6 : ∀ b, P 7 b → P 6 b := (key 6).resolve_right (by have := zw_n6 (P (6 + 1)); omega)
  have stm : ∀ m b, P (6 + m + 1) b → P (6 + m) b := by
    intro m
    induction m with
    | zero => exact st6
    | succ m ih => exact hst (6 + m) ih
  have down : ∀ m b, P (6 + m) b → P 6 b := by
    intro m
    induction m with
    | zero => exact fun b h => h
    | succ m ih => exact fun b h => ih b (stm m b h)
  have up : ∀ m n b, P n b → P (n + m) b := by
    intro m n b h
    induction m with
    | zero => exact h
    | succ m ih => exact hm _ b ih
  intro n b h
  rcases Nat.le_total n 6 with hn | hn
  · have := up (6 - n) n b h
    rwa [show n + (6 - n) = 6 by omega] at this
  · obtain ⟨m, rfl⟩ := Nat.exists_eq_add_of_le hn
    exact down m b h
/-! the graph -/
def zw_E (nx : Nat → Int32) (a b : Nat) : Prop := a < 6 ∧ b < 6 ∧ bt (nx a) b = true
def zw_R (nx : Nat → Int32) (h : Nat) : Nat → Nat → Prop
  | 0 => fun b => b = 0 ∧ b ≠ h
  | n + 1 => fun b => zw_R nx h n b ∨ (b ≠ h ∧ ∃ a, zw_R nx h n a ∧ zw_E nx a b)
def zw_A (nx : Nat → Int32) (h b : Nat) : Prop := ∃ n, zw_R nx h n b
def zw_L (nx : Nat → Int32) (b : Nat) : Prop := zw_A nx 6 b
def zw_D (nx : Nat → Int32) (h b : Nat) : Prop := zw_L nx b ∧ zw_L nx h ∧ ¬ zw_A nx h b
def zw_F (nx : Nat → Int32) (a b : Nat) : Prop := zw_E nx a b ∧ zw_L nx a ∧ ¬ zw_D nx b a
def zw_B (nx : Nat → Int32) (a b : Nat) : Prop := zw_E nx a b ∧ zw_L nx a ∧ zw_D nx b a
section
variable {nx : Nat → Int32}
theorem zw_R6 {h : Nat} : ∀ n b, zw_R nx h n b → b < 6 := by
  intro n
  induction n with
  | zero => intro b hb; have := hb.1; omega
  | succ n ih =>
    intro b hb
    rcases hb with hb | ⟨_, a, _, he⟩
    · exact ih b hb
    · exact he.2.1
theorem zw_Rm {h n b : Nat} (hb : zw_R nx h n b) : zw_R nx h (n + 1) b := Or.inl hb
theorem zw_Rle {h b : Nat} {n m : Nat} (hnm : n ≤ m) (hb : zw_R nx h n b) : zw_R nx h m b := by
  obtain ⟨k, rfl⟩ := Nat.exists_eq_add_of_le hnm
  induction k with
  | zero => exact hb
  | succ k ih => exact zw_Rm (ih (by omega))
theorem zw_Rs {h n b : Nat} (hb : zw_R nx h n b) : zw_R nx h 6 b := by
  refine zw_sat (zw_R nx h) (fun n b => zw_R6 n b) (fun n b => zw_Rm) ?_ n b hb
  intro n hn b hb
  rcases hb with hb | ⟨h1, a, ha, he⟩
  · exact hb
  · exact Or.inr ⟨h1, a, hn a ha, he⟩
theorem zw_R0 {h n b : Nat} (hb : zw_R nx h n b) (h0 : b ≠ 0) : ∃ a m, m < n ∧ zw_R nx h m a ∧ zw_E nx a b ∧ b ≠ h := by
  induction n with
  | zero => exact absurd hb.1 h0
  | succ n ih =>
    rcases hb with hb | ⟨h1, a, ha, he⟩
    · obtain ⟨a, m, hm, h⟩ := ih hb
      exact ⟨a, m, by omega, h⟩
    · exact ⟨a, n, by omega, ha, he, h1⟩
theorem zw_A0 {h : Nat} (hh : h ≠ 0) : zw_A nx h 0 := ⟨0, rfl, fun z => hh z.symm⟩
theorem zw_As {h a b : Nat} (ha : zw_A nx h a) (he : zw_E nx a b) (hb : b ≠ h) : zw_A nx h b := by
  obtain ⟨n, hn⟩ := ha
  exact ⟨n + 1, Or.inr ⟨hb, a, hn, he⟩⟩
theorem zw_Ai {h : Nat} {Q : Nat → Prop} (h0 : 0 ≠ h → Q 0) (hs : ∀ a b, zw_A nx h a → Q a → zw_E nx a b → b ≠ h → Q b) : ∀ b, zw_A nx h b → Q b := by
  have key : ∀ n b, zw_R nx h n b → Q b := by
    intro n
    induction n with
    | zero => intro b hb; rw [hb.1]; exact h0 (hb.1 ▸ hb.2)
    | succ n ih =>
      intro b hb
      rcases hb with hb | ⟨h1, a, ha, he⟩
      · exact ih b hb
      · exact hs a b ⟨n, ha⟩ (ih a ha) he h1
  rintro b ⟨n, hn⟩
  exact key n b hn
theorem zw_Ane {h b : Nat} (hb : zw_A nx h b) : b ≠ h := by
  refine zw_Ai (Q := fun b => b ≠ h) (fun z => z) ?_ b hb
  intro a b _ _ _ hb
  exact hb
theorem zw_A6 {h b : Nat} (hb : zw_A nx h b) : b < 6 := by
  obtain ⟨n, hn⟩ := hb
  exact zw_R6 n b hn
theorem zw_L6 {b : Nat} (hb : zw_L nx b) : b < 6 := zw_A6 hb
theorem zw_L0 : zw_L nx 0 := zw_A0 (by decide)
theorem zw_Ls {a b : Nat} (ha : zw_L nx a) (he : zw_E nx a b) : zw_L nx b := zw_As ha he (by have := he.2.1; omega)
theorem zw_AL {h b : Nat} (hb : zw_A nx h b) : zw_L nx b :=
  zw_Ai (Q := fun b => zw_L nx b) (fun _ => zw_L0) (fun _ _ _ ha he _ => zw_Ls ha he) b hb
theorem zw_D00 {h : Nat} (hd : zw_D nx h 0) : h = 0 := Classical.byContradiction fun z => hd.2.2 (zw_A0 z)
theorem zw_Ds {b : Nat} (hb : zw_L nx b) : zw_D nx b b := ⟨hb, hb, fun z => zw_Ane z rfl⟩
theorem zw_Dp {h a b : Nat} (hd : zw_D nx h b) (hn : b ≠ h) (he : zw_E nx a b) (ha : zw_L nx a) : zw_D nx h a :=
  ⟨ha, hd.2.1, fun z => hd.2.2 (zw_As z he hn)⟩
theorem zw_Da {h k : Nat} (h1 : zw_D nx h k) (h2 : zw_D nx k h) : h = k := by
  apply Classical.byContradiction
  intro hn
  have key : ∀ b, zw_L nx b → zw_A nx h b ∧ zw_A nx k b := by
    refine zw_Ai (Q := fun b => zw_A nx h b ∧ zw_A nx k b) ?_ ?_
    · intro _
      constructor
      · apply zw_A0
        intro z
        subst z
        exact h2.2.2 (zw_A0 (fun z => hn z.symm))
      · apply zw_A0
        intro z
        subst z
        exact h1.2.2 (zw_A0 hn)
    · rintro a b _ ⟨ha, hk⟩ he _
      constructor
      · apply zw_As ha he
        intro z
        subst z
        exact h2.2.2 (zw_As hk he hn)
      · apply zw_As hk he
        intro z
        subst z
        exact h1.2.2 (zw_As ha he (fun z => hn z.symm))
  exact h2.2.2 (key h h2.1).2
theorem zw_pr {c : Nat} (hc : zw_L nx c) (h0 : c ≠ 0) : ∃ p, zw_F nx p c := by
  apply Classical.byContradiction
  intro hn
  have key : ∀ b, zw_L nx b → zw_A nx c b := by
    refine zw_Ai (Q := fun b => zw_A nx c b) (fun _ => zw_A0 h0) ?_
    intro a b hl ha he _
    apply zw_As ha he
    intro z
    subst z
    exact hn ⟨a, he, hl, fun hd => hd.2.2 ha⟩
  exact zw_Ane (key c hc) rfl
theorem zw_FL {a b : Nat} (h : zw_F nx a b) : zw_L nx b := zw_Ls h.2.1 h.1
/-! loops -/
end
def zw_P (nx : Nat → Int32) (h : Nat) : Nat → Nat → Prop
  | 0 => fun b => (b = h ∧ ∃ a, zw_B nx a h) ∨ zw_B nx b h
  | n + 1 => fun b => zw_P nx h n b ∨ (zw_L nx b ∧ ∃ c, zw_E nx b c ∧ c ≠ h ∧ zw_P nx h n c)
def zw_I (nx : Nat → Int32) (h b : Nat) : Prop := ∃ n, zw_P nx h n b
section
variable {nx : Nat → Int32}
theorem zw_P6 {h : Nat} : ∀ n b, zw_P nx h n b → b < 6 := by
  intro n
  induction n with
  | zero =>
    intro b hb
    rcases hb with ⟨rfl, a, ha⟩ | hb
    · exact ha.1.2.1
    · exact hb.1.1
  | succ n ih =>
    intro b hb
    rcases hb with hb | ⟨_, c, he, _⟩
    · exact ih b hb
    · exact he.1
theorem zw_Pm {h n b : Nat} (hb : zw_P nx h n b) : zw_P nx h (n + 1) b := Or.inl hb
theorem zw_Ps {h n b : Nat} (hb : zw_P nx h n b) : zw_P nx h 6 b := by
  refine zw_sat (zw_P nx h) (fun n b => zw_P6 n b) (fun n b => zw_Pm) ?_ n b hb
  intro n hn b hb
  rcases hb with hb | ⟨h1, c, he, hc, hp⟩
  · exact hb
  · exact Or.inr ⟨h1, c, he, hc, hn c hp⟩
theorem zw_Ii {h : Nat} {Q : Nat → Prop} (hh : (∃ a, zw_B nx a h) → Q h) (hb : ∀ b, zw_B nx b h → Q b)
    (hs : ∀ b c, zw_L nx b → zw_E nx b c → c ≠ h → zw_I nx h c → Q c → Q b) : ∀ b, zw_I nx h b → Q b := by
  have key : ∀ n b, zw_P nx h n b → Q b := by
    intro n
    induction n with
    | zero =>
      intro b hp
      rcases hp with ⟨rfl, ha⟩ | hp
      · exact hh ha
      · exact hb b hp
    | succ n ih =>
      intro b hp
      rcases hp with hp | ⟨h1, c, he, hc, hp⟩
      · exact ih b hp
      · exact hs b c h1 he hc ⟨n, hp⟩ (ih c hp)
  rintro b ⟨n, hn⟩
  exact key n b hn
theorem zw_Ih {a h : Nat} (hb : zw_B nx a h) : zw_I nx h h := ⟨0, Or.inl ⟨rfl, a, hb⟩⟩
theorem zw_Ib {a h : Nat} (hb : zw_B nx a h) : zw_I nx h a := ⟨0, Or.inr hb⟩
theorem zw_Is {h a c : Nat} (he : zw_E nx a c) (ha : zw_L nx a) (hc : zw_I nx h c) (hn : c ≠ h) : zw_I nx h a := by
  obtain ⟨n, hp⟩ := hc
  exact ⟨n + 1, Or.inr ⟨ha, c, he, hn, hp⟩⟩
theorem zw_Ie {h b : Nat} (hb : zw_I nx h b) : ∃ a, zw_B nx a h :=
  zw_Ii (Q := fun _ => ∃ a, zw_B nx a h) (fun z => z) (fun b hb => ⟨b, hb⟩) (fun _ _ _ _ _ _ z => z) b hb
theorem zw_Ihh {h b : Nat} (hb : zw_I nx h b) : zw_I nx h h := by
  obtain ⟨a, ha⟩ := zw_Ie hb
  exact zw_Ih ha
theorem zw_I6 {h b : Nat} (hb : zw_I nx h b) : b < 6 := by
  obtain ⟨n, hn⟩ := hb
  exact zw_P6 n b hn
theorem zw_Ih6 {h b : Nat} (hb : zw_I nx h b) : h < 6 := zw_I6 (zw_Ihh hb)
theorem zw_ID {h b : Nat} (hb : zw_I nx h b) : zw_D nx h b := by
  refine zw_Ii (Q := fun b => zw_D nx h b) ?_ ?_ ?_ b hb
  · rintro ⟨a, ha⟩
    exact zw_Ds ha.2.2.2.1
  · intro b hb
    exact hb.2.2
  · intro b c hl he hc _ hd
    exact zw_Dp hd hc he hl
theorem zw_IL {h b : Nat} (hb : zw_I nx h b) : zw_L nx b := (zw_ID hb).1
theorem zw_IhL {h b : Nat} (hb : zw_I nx h b) : zw_L nx h := (zw_ID hb).2.1
/-- a loop whose head lies in another loop, lies in it -/
theorem zw_In {h k : Nat} (hk : zw_I nx k h) (hn : h ≠ k) : ∀ y, zw_I nx h y → zw_I nx k y := by
  refine zw_Ii (Q := fun y => zw_I nx k y) (fun _ => hk) ?_ ?_
  · intro b hb
    exact zw_Is hb.1 hb.2.1 hk hn
  · intro b c hl he hc hi hq
    refine zw_Is he hl hq ?_
    intro z
    subst z
    exact hn (zw_Da (zw_ID hi) (zw_ID hk))
/-- loops that share a block: one holds the other's head -/
theorem zw_Ic {h k x : Nat} (h1 : zw_I nx h x) (h2 : zw_I nx k x) : zw_I nx k h ∨ zw_I nx h k := by
  have key : ∀ x, zw_L nx x → zw_I nx h x → zw_I nx k x → zw_I nx k h ∨ zw_I nx h k := by
    refine zw_Ai (Q := fun x => zw_I nx h x → zw_I nx k x → zw_I nx k h ∨ zw_I nx h k) ?_ ?_
    · intro _ h1 h2
      have := zw_D00 (zw_ID h1)
      subst this
      exact Or.inl h2
    · intro a b hl ih he _ h1 h2
      by_cases hh : b = h
      · subst hh; exact Or.inl h2
      · by_cases hk : b = k
        · subst hk; exact Or.inr h1
        · exact ih (zw_Is he hl h1 hh) (zw_Is he hl h2 hk)
  exact key x (zw_IL h1) h1 h2
theorem zw_IF {a b : Nat} (hf : zw_F nx a b) : ¬ zw_I nx b a := fun z => hf.2.2 (zw_ID z)
/-! the size of a loop -/
end
noncomputable def zw_z (nx : Nat → Int32) (h : Nat) : Nat := zw_n (zw_I nx h)
section
variable {nx : Nat → Int32}
theorem zw_zlt {h k : Nat} (hk : zw_I nx k h) (hh : zw_I nx h h) (hn : h ≠ k) : zw_z nx h < zw_z nx k := by
  refine zw_ns (fun i _ => zw_In hk hn i) (zw_Ih6 hk) (zw_Ihh hk) ?_
  intro z
  exact hn (zw_Da (zw_ID z) (zw_ID hk))
/-- the larger of two loops that share a block holds the other -/
theorem zw_zc {h k x : Nat} (h1 : zw_I nx h x) (h2 : zw_I nx k x) (hz : zw_z nx h ≤ zw_z nx k) : ∀ y, zw_I nx h y → zw_I nx k y := by
  by_cases hn : h = k
  · subst hn; exact fun _ z => z
  · rcases zw_Ic h1 h2 with hk | hk
    · exact zw_In hk hn
    · have := zw_zlt hk (zw_Ihh h2) (fun z => hn z.symm)
      omega
/-! rings of forward edges -/
end
def zw_T (nx : Nat → Int32) (b : Nat) : Nat → Nat → Prop
  | 0 => fun c => zw_F nx b c
  | n + 1 => fun c => zw_T nx b n c ∨ ∃ a, zw_T nx b n a ∧ zw_F nx a c
def zw_G (nx : Nat → Int32) : Prop := ∃ b n, zw_T nx b n b
noncomputable def zw_k (nx : Nat → Int32) (b : Nat) : Nat := zw_n (fun a => ∃ n, zw_T nx a n b)
section
variable {nx : Nat → Int32}
theorem zw_T6 {b : Nat} : ∀ n c, zw_T nx b n c → c < 6 ∧ b < 6 := by
  intro n
  induction n with
  | zero => intro c hc; exact ⟨hc.1.2.1, hc.1.1⟩
  | succ n ih =>
    intro c hc
    rcases hc with hc | ⟨a, ha, hf⟩
    · exact ih c hc
    · exact ⟨hf.1.2.1, (ih a ha).2⟩
theorem zw_Ts {b n c : Nat} (hc : zw_T nx b n c) : zw_T nx b 6 c := by
  refine zw_sat (zw_T nx b) (fun n c h => (zw_T6 n c h).1) (fun n c => Or.inl) ?_ n c hc
  intro n hn c hc
  rcases hc with hc | ⟨a, ha, hf⟩
  · exact hc
  · exact Or.inr ⟨a, hn a ha, hf⟩
theorem zw_klt (hg : ¬ zw_G nx) {a b : Nat} (hf : zw_F nx a b) : zw_k nx a < zw_k nx b := by
  refine zw_ns (k := a) ?_ hf.1.1 ⟨0, hf⟩ ?_
  · rintro i _ ⟨n, hn⟩
    exact ⟨n + 1, Or.inr ⟨a, hn, hf⟩⟩
  · rintro ⟨n, hn⟩
    exact hg ⟨a, n, hn⟩
theorem zw_k6 (hg : ¬ zw_G nx) {b : Nat} (hb : b < 6) : zw_k nx b < 6 := by
  have := zw_ns (P := fun a => ∃ n, zw_T nx a n b) (Q := fun _ => True) (fun _ _ _ => trivial) hb trivial (fun ⟨n, hn⟩ => hg ⟨b, n, hn⟩)
  have := zw_n6 (fun _ => True)
  unfold zw_k
  omega
/-- a numbering that forward edges raise excludes rings -/
theorem zw_Gno {ps : Nat → Nat} (h : ∀ a b, zw_F nx a b → ps a < ps b) : ¬ zw_G nx := by
  rintro ⟨b, n, hn⟩
  have key : ∀ n c, zw_T nx b n c → ps b < ps c := by
    intro n
    induction n with
    | zero => intro c hc; exact h b c hc
    | succ n ih =>
      intro c hc
      rcases hc with hc | ⟨a, ha, hf⟩
      · exact ih c hc
      · exact Nat.lt_trans (ih a ha) (h a c hf)
  exact Nat.lt_irrefl _ (key n b hn)
end
end
section
/-! states of the reference: block and counts in one number -/
def zw_c (s b : Nat) : Nat := s / 6 / 3 ^ b % 3
def zw_g (s b t : Nat) : Nat := 6 * (s / 6 - zw_c s b * 3 ^ b + t * 3 ^ b) + b
theorem zw_c3 (s b : Nat) : zw_c s b < 3 := Nat.mod_lt _ (by decide)
theorem zw_gn {s b t : Nat} (hb : b < 6) : zw_g s b t % 6 = b := by
  unfold zw_g
  omega
theorem zw_g6 {s b t : Nat} (hb : b < 6) : zw_g s b t / 6 = s / 6 - zw_c s b * 3 ^ b + t * 3 ^ b := by
  unfold zw_g
  omega
theorem zw_d0 {N t : Nat} (ht : t < 3) : (N - N / 1 % 3 * 1 + t * 1) / 1 % 3 = t := by omega
theorem zw_gc {s b t : Nat} (hb : b < 6) (ht : t < 3) : zw_c (zw_g s b t) b = t := by
  unfold zw_c
  rw [zw_g6 hb]
  unfold zw_c
  generalize s / 6 = N
  rcases zw_6c hb with rfl | rfl | rfl | rfl | rfl | rfl
  · show (N - N / 1 % 3 * 1 + t * 1) / 1 % 3 = t; omega
  · show (N - N / 3 % 3 * 3 + t * 3) / 3 % 3 = t; omega
  · show (N - N / 9 % 3 * 9 + t * 9) / 9 % 3 = t; omega
  · show (N - N / 27 % 3 * 27 + t * 27) / 27 % 3 = t; omega
  · show (N - N / 81 % 3 * 81 + t * 81) / 81 % 3 = t; omega
  · show (N - N / 243 % 3 * 243 + t * 243) / 243 % 3 = t; omega
theorem zw_gd {s b c t : Nat} (hb : b < 6) (hc : c < 6) (hn : c ≠ b) (ht : t < 3) : zw_c (zw_g s b t) c = zw_c s c := by
  unfold zw_c
  rw [zw_g6 hb]
  unfold zw_c
  generalize s / 6 = N
  rcases zw_6c hb with rfl | rfl | rfl | rfl | rfl | rfl
  · show (N - N / 1 % 3 * 1 + t * 1) / 3 ^ c % 3 = _
    rcases zw_6c hc with rfl | rfl | rfl | rfl | rfl | rfl
    · exact absurd rfl hn
    · show _ / 3 % 3 = N / 3 % 3; omega
    · show _ / 9 % 3 = N / 9 % 3; omega
    · show _ / 27 % 3 = N / 27 % 3; omega
    · show _ / 81 % 3 = N / 81 % 3; omega
    · show _ / 243 % 3 = N / 243 % 3; omega
  · show (N - N / 3 % 3 * 3 + t * 3) / 3 ^ c % 3 = _
    rcases zw_6c hc with rfl | rfl | rfl | rfl | rfl | rfl
    · show _ / 1 % 3 = N / 1 % 3; omega
    · exact absurd rfl hn
    · show _ / 9 % 3 = N / 9 % 3; omega
    · show _ / 27 % 3 = N / 27 % 3; omega
    · show _ / 81 % 3 = N / 81 % 3; omega
    · show _ / 243 % 3 = N / 243 % 3; omega
  · show (N - N / 9 % 3 * 9 + t * 9) / 3 ^ c % 3 = _
    rcases zw_6c hc with rfl | rfl | rfl | rfl | rfl | rfl
    · show _ / 1 % 3 = N / 1 % 3; omega
    · show _ / 3 % 3 = N / 3 % 3; omega
    · exact absurd rfl hn
    · show _ / 27 % 3 = N / 27 % 3; omega
    · show _ / 81 % 3 = N / 81 % 3; omega
    · show _ / 243 % 3 = N / 243 % 3; omega
  · show (N - N / 27 % 3 * 27 + t * 27) / 3 ^ c % 3 = _
    rcases zw_6c hc with rfl | rfl | rfl | rfl | rfl | rfl
    · show _ / 1 % 3 = N / 1 % 3; omega
    · show _ / 3 % 3 = N / 3 % 3; omega
    · show _ / 9 % 3 = N / 9 % 3; omega
    · exact absurd rfl hn
    · show _ / 81 % 3 = N / 81 % 3; omega
    · show _ / 243 % 3 = N / 243 % 3; omega
  · show (N - N / 81 % 3 * 81 + t * 81) / 3 ^ c % 3 = _
    rcases zw_6c hc with rfl | rfl | rfl | rfl | rfl | rfl
    · show _ / 1 % 3 = N / 1 % 3; omega
    · show _ / 3 % 3 = N / 3 % 3; omega
    · show _ / 9 % 3 = N / 9 % 3; omega
    · show _ / 27 % 3 = N / 27 % 3; omega
    · exact absurd rfl hn
    · show _ / 243 % 3 = N / 243 % 3; omega
  · show (N - N / 243 % 3 * 243 + t * 243) / 3 ^ c % 3 = _
    rcases zw_6c hc with rfl | rfl | rfl | rfl | rfl | rfl
    · show _ / 1 % 3 = N / 1 % 3; omega
    · show _ / 3 % 3 = N / 3 % 3; omega
    · show _ / 9 % 3 = N / 9 % 3; omega
    · show _ / 27 % 3 = N / 27 % 3; omega
    · show _ / 81 % 3 = N / 81 % 3; omega
    · exact absurd rfl hn
theorem zw_gl {s b t : Nat} (hs : s < 4374) (hb : b < 6) (ht : t < 3) : zw_g s b t < 4374 := by
  unfold zw_g zw_c
  have hN : s / 6 < 729 := by omega
  generalize s / 6 = N at *
  rcases zw_6c hb with rfl | rfl | rfl | rfl | rfl | rfl
  · show 6 * (N - N / 1 % 3 * 1 + t * 1) + 0 < 4374; omega
  · show 6 * (N - N / 3 % 3 * 3 + t * 3) + 1 < 4374; omega
  · show 6 * (N - N / 9 % 3 * 9 + t * 9) + 2 < 4374; omega
  · show 6 * (N - N / 27 % 3 * 27 + t * 27) + 3 < 4374; omega
  · show 6 * (N - N / 81 % 3 * 81 + t * 81) + 4 < 4374; omega
  · show 6 * (N - N / 243 % 3 * 243 + t * 243) + 5 < 4374; omega
/-! steps and walks -/
def zw_St (nx bo : Nat → Int32) (s s' : Nat) : Prop :=
  ∃ b t, zw_E nx (s % 6) b ∧ zw_L nx (s % 6) ∧ ((zw_D nx b (s % 6) ∧ t = zw_c s b + 1) ∨ (¬ zw_D nx b (s % 6) ∧ t = 0)) ∧ (t : Int) < (bo b).toInt ∧ s' = zw_g s b t
def zw_W (nx bo : Nat → Int32) (wt : Nat → Int) (A : Nat → Prop) : Nat → Nat → Nat → Int → Prop
  | 0 => fun s s' g => s' = s ∧ g = 0
  | n + 1 => fun s s' g => ∃ m g', zw_W nx bo wt A n s m g' ∧ zw_St nx bo m s' ∧ A (s' % 6) ∧ g = g' + wt (s' % 6)
/-- bounds from 1 to 3 -/
def zw_bd (bo : Nat → Int32) : Prop := ∀ b, b < 6 → 1 ≤ (bo b).toInt ∧ (bo b).toInt ≤ 3
section
variable {nx bo : Nat → Int32} {wt : Nat → Int} {A : Nat → Prop}
theorem zw_t3 {b t : Nat} (hB : zw_bd bo) (hb : b < 6) (ht : (t : Int) < (bo b).toInt) : t < 3 := by
  have := (hB b hb).2
  omega
theorem zw_Sl {s s' : Nat} (hB : zw_bd bo) (h : zw_St nx bo s s') (hs : s < 4374) : s' < 4374 := by
  obtain ⟨b, t, he, _, _, ht, rfl⟩ := h
  exact zw_gl hs he.2.1 (zw_t3 hB he.2.1 ht)
theorem zw_SE {s s' : Nat} (h : zw_St nx bo s s') : zw_E nx (s % 6) (s' % 6) ∧ zw_L nx (s % 6) := by
  obtain ⟨b, t, he, hl, _, _, rfl⟩ := h
  rw [zw_gn he.2.1]
  exact ⟨he, hl⟩
theorem zw_SL {s s' : Nat} (h : zw_St nx bo s s') : zw_L nx (s' % 6) := zw_Ls (zw_SE h).2 (zw_SE h).1
/-- a forward edge may always be gone; the count is then 0 -/
theorem zw_Sf {s b : Nat} (hB : zw_bd bo) (hf : zw_F nx (s % 6) b) : zw_St nx bo s (zw_g s b 0) :=
  ⟨b, 0, hf.1, hf.2.1, Or.inr ⟨hf.2.2, rfl⟩, by have := (hB b hf.1.2.1).1; omega, rfl⟩
theorem zw_Sb {s b : Nat} (hb : zw_B nx (s % 6) b) (ht : ((zw_c s b + 1 : Nat) : Int) < (bo b).toInt) : zw_St nx bo s (zw_g s b (zw_c s b + 1)) :=
  ⟨b, _, hb.1, hb.2.1, Or.inl ⟨hb.2.2, rfl⟩, ht, rfl⟩
theorem zw_Wt {n m s s1 s2 : Nat} {g1 g2 : Int} (h1 : zw_W nx bo wt A n s s1 g1) (h2 : zw_W nx bo wt A m s1 s2 g2) : zw_W nx bo wt A (n + m) s s2 (g1 + g2) := by
  induction m generalizing s2 g2 with
  | zero =>
    obtain ⟨rfl, rfl⟩ := h2
    rw [Int.add_zero]
    exact h1
  | succ m ih =>
    obtain ⟨q, g', hw, hs, hA, rfl⟩ := h2
    exact ⟨q, g1 + g', ih hw, hs, hA, by omega⟩
theorem zw_Wm {A' : Nat → Prop} (hA : ∀ b, b < 6 → A b → A' b) {n s s1 : Nat} {g : Int} (h : zw_W nx bo wt A n s s1 g) : zw_W nx bo wt A' n s s1 g := by
  induction n generalizing s1 g with
  | zero => exact h
  | succ n ih =>
    obtain ⟨q, g', hw, hs, ha, rfl⟩ := h
    exact ⟨q, g', ih hw, hs, hA _ (Nat.mod_lt _ (by decide)) ha, rfl⟩
theorem zw_W1 {s s' : Nat} (h : zw_St nx bo s s') (hA : A (s' % 6)) : zw_W nx bo wt A 1 s s' (wt (s' % 6)) :=
  ⟨s, 0, ⟨rfl, rfl⟩, h, hA, by omega⟩
theorem zw_Wl {n s s1 : Nat} {g : Int} (hB : zw_bd bo) (h : zw_W nx bo wt A n s s1 g) (hs : s < 4374) : s1 < 4374 := by
  induction n generalizing s1 g with
  | zero => rw [h.1]; exact hs
  | succ n ih =>
    obtain ⟨q, g', hw, hst, _, _⟩ := h
    exact zw_Sl hB hst (ih hw)
theorem zw_WL {n s s1 : Nat} {g : Int} (h : zw_W nx bo wt A n s s1 g) (hs : zw_L nx (s % 6)) : zw_L nx (s1 % 6) := by
  cases n with
  | zero => rw [h.1]; exact hs
  | succ n =>
    obtain ⟨q, g', hw, hst, _, _⟩ := h
    exact zw_SL hst
/-- counts of blocks that aren't come to don't change -/
theorem zw_Wc {n s s1 c : Nat} {g : Int} (hB : zw_bd bo) (h : zw_W nx bo wt A n s s1 g) (hc : c < 6) (hA : ¬ A c) : zw_c s1 c = zw_c s c := by
  induction n generalizing s1 g with
  | zero => rw [h.1]
  | succ n ih =>
    obtain ⟨q, g', hw, ⟨b, t, he, _, _, ht, rfl⟩, ha, _⟩ := h
    rw [zw_gn he.2.1] at ha
    rw [zw_gd he.2.1 hc (fun z => hA (z ▸ ha)) (zw_t3 hB he.2.1 ht)]
    exact ih hw
/-- counts stay below the bounds -/
theorem zw_Wb {n s s1 : Nat} {g : Int} (hB : zw_bd bo) (h : zw_W nx bo wt A n s s1 g) (h0 : ∀ c, c < 6 → (zw_c s c : Int) < (bo c).toInt) : ∀ c, c < 6 → (zw_c s1 c : Int) < (bo c).toInt := by
  induction n generalizing s1 g with
  | zero => rw [h.1]; exact h0
  | succ n ih =>
    obtain ⟨q, g', hw, ⟨b, t, he, _, _, ht, rfl⟩, _, _⟩ := h
    intro c hc
    by_cases hcb : c = b
    · subst hcb
      rw [zw_gc hc (zw_t3 hB hc ht)]
      exact ht
    · rw [zw_gd he.2.1 hc hcb (zw_t3 hB he.2.1 ht)]
      exact ih hw c hc
theorem zw_Wg {n s s1 : Nat} {g : Int} (hw : ∀ b, b < 6 → 0 ≤ wt b ∧ wt b ≤ 50) (h : zw_W nx bo wt A n s s1 g) : 0 ≤ g ∧ g ≤ 50 * n := by
  induction n generalizing s1 g with
  | zero => rw [h.2]; omega
  | succ n ih =>
    obtain ⟨q, g', hq, _, _, rfl⟩ := h
    have := ih hq
    have := hw (s1 % 6) (Nat.mod_lt _ (by decide))
    omega
theorem zw_Wmono {wt' : Nat → Int} (hw : ∀ b, b < 6 → wt b ≤ wt' b) {n s s1 : Nat} {g : Int} (h : zw_W nx bo wt A n s s1 g) : ∃ g', g ≤ g' ∧ zw_W nx bo wt' A n s s1 g' := by
  induction n generalizing s1 g with
  | zero => exact ⟨0, by rw [h.2]; omega, h.1, rfl⟩
  | succ n ih =>
    obtain ⟨q, g', hq, hs, ha, rfl⟩ := h
    obtain ⟨g2, h2, hq2⟩ := ih hq
    have := hw (s1 % 6) (Nat.mod_lt _ (by decide))
    exact ⟨g2 + wt' (s1 % 6), by omega, q, g2, hq2, hs, ha, rfl⟩
end
/-! no walk is long: places in an order -/
def zw_O (nx : Nat → Int32) (m : Nat) (o : Nat → Nat) : Prop :=
  m ≤ 6 ∧ (∀ k, k < m → o k < 6 ∧ zw_L nx (o k)) ∧ (∀ j k, j < m → k < m → o j = o k → j = k) ∧
  (∀ k a, k < m → zw_F nx a (o k) → ∃ j, j < k ∧ o j = a) ∧ (∀ b, zw_L nx b → ∃ k, k < m ∧ o k = b)
def zw_phi (K : Nat → Nat) : Nat → Nat
  | 0 => K 0 * 1024
  | 1 => K 0 * 1024 + K 1 * 256
  | 2 => K 0 * 1024 + K 1 * 256 + K 2 * 64
  | 3 => K 0 * 1024 + K 1 * 256 + K 2 * 64 + K 3 * 16
  | 4 => K 0 * 1024 + K 1 * 256 + K 2 * 64 + K 3 * 16 + K 4 * 4
  | _ => K 0 * 1024 + K 1 * 256 + K 2 * 64 + K 3 * 16 + K 4 * 4 + K 5
theorem zw_phib {K : Nat → Nat} (h : ∀ i, K i ≤ 3) {j : Nat} (hj : j < 6) : zw_phi K j ≤ 4095 := by
  have h0 := h 0
  have h1 := h 1
  have h2 := h 2
  have h3 := h 3
  have h4 := h 4
  have h5 := h 5
  rcases zw_6c hj with rfl | rfl | rfl | rfl | rfl | rfl <;> simp only [zw_phi] <;> omega
theorem zw_phis {K K' : Nat → Nat} (h : ∀ i, K i ≤ 3) (h' : ∀ i, 1 ≤ K' i) {j j' : Nat} (hj : j < 6) (hj' : j' < 6)
    (he : ∀ i, i ≤ j → i ≠ j' → K' i = K i) (hc : j < j' ∨ K' j' = K j' + 1) : zw_phi K j + 1 ≤ zw_phi K' j' := by
  have h0 := h 0
  have h1 := h 1
  have h2 := h 2
  have h3 := h 3
  have h4 := h 4
  have h5 := h 5
  have g0 := h' 0
  have g1 := h' 1
  have g2 := h' 2
  have g3 := h' 3
  have g4 := h' 4
  have g5 := h' 5
  have e0 := he 0
  have e1 := he 1
  have e2 := he 2
  have e3 := he 3
  have e4 := he 4
  have e5 := he 5
  clear h h' he
  rcases zw_6c hj with rfl | rfl | rfl | rfl | rfl | rfl <;> rcases zw_6c hj' with rfl | rfl | rfl | rfl | rfl | rfl <;> simp only [zw_phi] <;> omega
section
variable {nx bo : Nat → Int32} {wt : Nat → Int} {A : Nat → Prop} {m : Nat} {o : Nat → Nat}
theorem zw_Wphi (hO : zw_O nx m o) (hB : zw_bd bo) {s : Nat} {j : Nat} (hj : j < m) (hs : o j = s % 6) :
    ∀ n s1 g, zw_W nx bo wt A n s s1 g → ∀ j1, j1 < m → o j1 = s1 % 6 → zw_phi (fun i => zw_c s (o i) + 1) j + n ≤ zw_phi (fun i => zw_c s1 (o i) + 1) j1 := by
  intro n
  induction n with
  | zero =>
    intro s1 g h j1 hj1 h1
    obtain ⟨rfl, _⟩ := h
    have := hO.2.2.1 j j1 hj hj1 (hs.trans h1.symm)
    subst this
    exact Nat.le_refl _
  | succ n ih =>
    intro s1 g h j1 hj1 h1
    obtain ⟨q, g', hq, hst, _, _⟩ := h
    obtain ⟨jq, hjq, hoq⟩ := hO.2.2.2.2 _ (zw_SE hst).2
    have h2 := ih q g' hq jq hjq hoq
    have h3 : zw_phi (fun i => zw_c q (o i) + 1) jq + 1 ≤ zw_phi (fun i => zw_c s1 (o i) + 1) j1 := by
      obtain ⟨b, t, he, hl, hbt, ht, rfl⟩ := hst
      have hb6 := he.2.1
      have ht3 := zw_t3 hB hb6 ht
      rw [zw_gn hb6] at h1
      refine zw_phis (fun i => ?_) (fun i => ?_) (Nat.lt_of_lt_of_le hjq hO.1) (Nat.lt_of_lt_of_le hj1 hO.1) ?_ ?_
      · have := zw_c3 q (o i)
        show zw_c q (o i) + 1 ≤ 3
        omega
      · exact Nat.le_add_left 1 _
      · intro i hi hne
        show zw_c _ (o i) + 1 = zw_c q (o i) + 1
        have him : i < m := by omega
        rw [zw_gd hb6 (hO.2.1 i him).1 (fun z => hne (hO.2.2.1 i j1 him hj1 (z.trans h1.symm))) ht3]
      · rcases hbt with ⟨hd, rfl⟩ | ⟨hd, rfl⟩
        · right
          show zw_c _ (o j1) + 1 = zw_c q (o j1) + 1 + 1
          rw [h1, zw_gc hb6 ht3]
        · left
          have hf : zw_F nx (q % 6) (o j1) := by rw [h1]; exact ⟨he, hl, hd⟩
          obtain ⟨i, hi, hoi⟩ := hO.2.2.2.1 j1 _ hj1 hf
          have := hO.2.2.1 i jq (by omega) hjq (hoi.trans hoq.symm)
          omega
    omega
theorem zw_Wn (hO : zw_O nx m o) (hB : zw_bd bo) {s n s1 : Nat} {g : Int} (hl : zw_L nx (s % 6)) (h : zw_W nx bo wt A n s s1 g) : n ≤ 4095 := by
  obtain ⟨j, hj, hs⟩ := hO.2.2.2.2 _ hl
  obtain ⟨j1, hj1, hs1⟩ := hO.2.2.2.2 _ (zw_WL h hl)
  have h1 := zw_Wphi hO hB hj hs n s1 g h j1 hj1 hs1
  have h2 := zw_phib (K := fun i => zw_c s1 (o i) + 1) (fun i => by have := zw_c3 s1 (o i); show zw_c s1 (o i) + 1 ≤ 3; omega) (Nat.lt_of_lt_of_le hj1 hO.1)
  omega
theorem zw_Wg' (hO : zw_O nx m o) (hB : zw_bd bo) (hw : ∀ b, b < 6 → 0 ≤ wt b ∧ wt b ≤ 50) {s n s1 : Nat} {g : Int} (hl : zw_L nx (s % 6)) (h : zw_W nx bo wt A n s s1 g) : 0 ≤ g ∧ g ≤ 204750 := by
  have h1 := zw_Wn hO hB hl h
  have h2 := zw_Wg hw h
  omega
/-- dominators stand earlier -/
theorem zw_OD (hO : zw_O nx m o) {h : Nat} : ∀ k, k < m → zw_D nx h (o k) → ∃ j, j ≤ k ∧ o j = h := by
  intro k
  induction k using Nat.strongRecOn with
  | _ k ih =>
    intro hk hd
    by_cases hh : o k = h
    · exact ⟨k, Nat.le_refl k, hh⟩
    · have h0 : o k ≠ 0 := by
        intro z
        rw [z] at hd hh
        exact hh (zw_D00 hd).symm
      obtain ⟨p, hp⟩ := zw_pr hd.1 h0
      obtain ⟨j, hj, rfl⟩ := hO.2.2.2.1 k p hk hp
      obtain ⟨i, hi, hoi⟩ := ih j hj (by omega) (zw_Dp hd hh hp.1 hp.2.1)
      exact ⟨i, by omega, hoi⟩
end
end
section
/-! sets by a property -/
def zw_is (x : Int32) (P : Nat → Prop) : Prop := zw_S x ∧ ∀ b, b < 6 → (bt x b = true ↔ P b)
theorem zw_ise {x y : Int32} {P : Nat → Prop} (hx : zw_is x P) (hy : zw_is y P) : x = y := by
  refine zw_ext hx.1 hy.1 (fun i hi => ?_)
  have := (hx.2 i hi).trans (hy.2 i hi).symm
  cases h1 : bt x i <;> cases h2 : bt y i <;> rw [h1, h2] at this <;> simp at this <;> rfl
theorem zw_isf {x : Int32} {P : Nat → Prop} (hx : zw_is x P) {b : Nat} (hb : b < 6) : bt x b = false ↔ ¬ P b := by
  rw [← hx.2 b hb]
  cases bt x b <;> simp
theorem zw_isc {x : Int32} {P Q : Nat → Prop} (hx : zw_is x P) (h : ∀ b, b < 6 → (P b ↔ Q b)) : zw_is x Q :=
  ⟨hx.1, fun b hb => (hx.2 b hb).trans (h b hb)⟩
theorem zw_is0 {P : Nat → Prop} (h : ∀ b, b < 6 → ¬ P b) : zw_is 0 P :=
  ⟨zw_S0, fun b hb => by rw [b_0]; exact ⟨fun z => absurd z (by decide), fun z => absurd z (h b hb)⟩⟩
theorem zw_isz {x : Int32} {P : Nat → Prop} (hx : zw_is x P) : x = 0 ↔ ∀ b, b < 6 → ¬ P b := by
  rw [zw_zero hx.1]
  exact ⟨fun h b hb => (zw_isf hx hb).mp (h b hb), fun h b hb => (zw_isf hx hb).mpr (h b hb)⟩
theorem zw_isa {x : Int32} {P : Nat → Prop} {k : Nat} (hx : zw_is x P) (hk : k < 6) : zw_is (x ||| ((1 : Int32) <<< (nI k &&& 31))) (fun b => P b ∨ b = k) :=
  ⟨zw_Sor hx.1 (zw_Sone hk), fun b hb => by rw [zw_add (by omega), hx.2 b hb]⟩
theorem zw_isl {x : Int32} {P : Nat → Prop} (hx : zw_is x P) {b : Nat} (h : bt x b = true) : P b := (hx.2 b (zw_mem hx.1 h)).mp h
/-! findLive -/
section
variable {kn lv od hc : Int32} {co bo nx dm fw bk lp ow hs we il re : Nat → Int32}
theorem zx_fl15 {post : SX → Prop} {J7 : Int32 → Int32 → Prop} {x1 : Int32} {r : Nat} (hnx : ∀ a, a < 6 → zw_S (nx a)) (hS : zw_S lv)
    (h1 : ∀ b, zw_R nx 6 r b → bt lv b = true) (h2 : ∀ b, bt lv b = true → zw_L nx b)
    (hJ : ∀ lv', zw_S lv' → (∀ b, zw_R nx 6 (r + 1) b → bt lv' b = true) → (∀ b, bt lv' b = true → zw_L nx b) → J7 (x1 + 1) lv') :
    ∃ n, wX_findLive_15 post J7 x1 kn od hc co bo nx dm fw bk lp ow hs we il re n 0 lv := by
  refine loop_0 (fun n i s => wX_findLive_15 post J7 x1 kn od hc co bo nx dm fw bk lp ow hs we il re n (nI i) s)
    (fun i s => zw_S s ∧ (∀ b, bt lv b = true → bt s b = true) ∧ (∀ b, bt s b = true → zw_L nx b) ∧ ∀ a, a < i → bt lv a = true → ∀ b, b < 6 → bt (nx a) b = true → bt s b = true) 6 lv
    ⟨hS, fun _ z => z, h2, fun a ha => absurd ha (by omega)⟩ ?_ ?_
  · intro n s hI
    refine br_t zw_66 (nm_e (hJ s hI.1 ?_ hI.2.2.1))
    intro b hb
    rcases hb with hb | ⟨_, a, ha, he⟩
    · exact hI.2.1 b (h1 b hb)
    · exact hI.2.2.2 a he.1 (h1 a ha) b he.2.1 he.2.2
  · intro n i s hi hI k
    refine br_f (zw_6 hi) (zx_in (by omega) (fun hb => nm_r (nI_1 i) (k s ⟨hI.1, hI.2.1, hI.2.2.1, ?_⟩)) (fun hb => ⟨zw_i6 hi, nm_r (e' := s ||| nx i) (by rw [zw_c6 hi]) (nm_r (nI_1 i) (k _ ⟨zw_Sor hI.1 (hnx i hi), fun b h => zw_or.mpr (Or.inl (hI.2.1 b h)), ?_, ?_⟩))⟩))
    · intro a ha hla b hb6 hab
      by_cases hai : a = i
      · subst hai
        rw [hI.2.1 a hla] at hb
        exact absurd hb (by decide)
      · exact hI.2.2.2 a (by omega) hla b hb6 hab
    · intro b h
      rcases zw_or.mp h with h | h
      · exact hI.2.2.1 b h
      · exact zw_Ls (hI.2.2.1 i hb) ⟨hi, zw_mem (hnx i hi) h, h⟩
    · intro a ha hla b hb6 hab
      by_cases hai : a = i
      · subst hai
        exact zw_or.mpr (Or.inr hab)
      · exact zw_or.mpr (Or.inl (hI.2.2.2 a (by omega) hla b hb6 hab))
theorem zx_fl7 {post : SX → Prop} (hnx : ∀ a, a < 6 → zw_S (nx a)) (h : ∀ lv', zw_is lv' (zw_L nx) → post (kn, lv', od, hc, co, bo, nx, dm, fw, bk, lp, ow, hs, we, il, re)) :
    ∃ n, wX_findLive_7 post kn od hc co bo nx dm fw bk lp ow hs we il re n 0 1 := by
  refine loop_0 (fun n i s => wX_findLive_7 post kn od hc co bo nx dm fw bk lp ow hs we il re n (nI i) s)
    (fun i s => zw_S s ∧ (∀ b, zw_R nx 6 i b → bt s b = true) ∧ (∀ b, bt s b = true → zw_L nx b)) 6 1 ⟨zw_S1, ?_, ?_⟩ ?_ ?_
  · intro b hb
    rw [hb.1]
    decide
  · intro b hb
    rw [zw_b1, decide_eq_true_eq] at hb
    rw [hb]
    exact zw_L0
  · intro n s hI
    exact br_t zw_66 (h s ⟨hI.1, fun b _ => ⟨hI.2.2 b, fun ⟨n, hn⟩ => hI.2.1 b (zw_Rs hn)⟩⟩)
  · intro n i s hi hI k
    refine br_f (zw_6 hi) (zx_fl15 hnx hI.1 hI.2.1 hI.2.2 ?_)
    intro lv' a b c
    rw [nI_1]
    exact k lv' ⟨a, b, c⟩
theorem zx_findLive {post : SX → Prop} (hnx : ∀ a, a < 6 → zw_S (nx a)) (h : ∀ lv', zw_is lv' (zw_L nx) → post (kn, lv', od, hc, co, bo, nx, dm, fw, bk, lp, ow, hs, we, il, re)) :
    wpX_findLive post (kn, lv, od, hc, co, bo, nx, dm, fw, bk, lp, ow, hs, we, il, re) := zx_fl7 hnx h
/-! meetOfBefore -/
theorem zx_meet {post : Int32 → Prop} {b : Nat} (hb : b < 6)
    (h : ∀ r, (∀ h, bt r h = true ↔ bt lv h = true ∧ ∀ a, a < 6 → bt lv a = true → bt (nx a) b = true → bt (dm a) h = true) → post r) :
    wpX_meetOfBefore post (kn, lv, od, hc, co, bo, nx, dm, fw, bk, lp, ow, hs, we, il, re) (nI b) := by
  refine loop_0 (fun n i s => wX_meetOfBefore_7 post (nI b) kn lv od hc co bo nx dm fw bk lp ow hs we il re n s (nI i))
    (fun i s => ∀ h, bt s h = true ↔ bt lv h = true ∧ ∀ a, a < i → bt lv a = true → bt (nx a) b = true → bt (dm a) h = true) 6 lv ?_ ?_ ?_
  · intro h
    exact ⟨fun z => ⟨z, fun a ha => absurd ha (by omega)⟩, fun z => z.1⟩
  · intro n s hI
    exact br_t zw_66 (h s hI)
  · intro n i s hi hI k
    have keep : ¬ (bt lv i = true ∧ bt (nx i) b = true) → ∀ h, bt s h = true ↔ bt lv h = true ∧ ∀ a, a < i + 1 → bt lv a = true → bt (nx a) b = true → bt (dm a) h = true := by
      intro hno h
      rw [hI h]
      refine ⟨fun z => ⟨z.1, fun a ha h1 h2 => ?_⟩, fun z => ⟨z.1, fun a ha h1 h2 => z.2 a (by omega) h1 h2⟩⟩
      by_cases hai : a = i
      · subst hai; exact absurd ⟨h1, h2⟩ hno
      · exact z.2 a (by omega) h1 h2
    refine br_f (zw_6 hi) (zx_in (by omega) (fun h0 => nm_r (nI_1 i) (k s (keep ?_))) (fun h0 => ⟨zw_i6 hi, ?_⟩))
    · intro z
      rw [z.1] at h0
      exact absurd h0 (by decide)
    · rw [zw_c6 hi]
      refine zx_in (by omega) (fun h1 => nm_r (nI_1 i) (k s (keep ?_))) (fun h1 => ⟨zw_i6 hi, nm_e (nm_r (nI_1 i) (k _ ?_))⟩)
      · intro z
        rw [z.2] at h1
        exact absurd h1 (by decide)
      · intro h
        rw [zw_and, hI h]
        refine ⟨fun z => ⟨z.1.1, fun a ha g1 g2 => ?_⟩, fun z => ⟨⟨z.1, fun a ha g1 g2 => z.2 a (by omega) g1 g2⟩, z.2 i (by omega) h0 h1⟩⟩
        by_cases hai : a = i
        · subst hai; exact z.2
        · exact z.1.2 a (by omega) g1 g2
end
end
section
/-! findDominators -/
def zx_dU (nx : Nat → Int32) (r i : Nat) (dm : Nat → Int32) : Prop :=
  (∀ b, b < 6 → zw_S (dm b)) ∧ (∀ b, b < 6 → ¬ zw_L nx b → dm b = 0) ∧ (∀ b h, b < 6 → zw_D nx h b → bt (dm b) h = true) ∧
  (∀ b h, b < 6 → bt (dm b) h = true → zw_L nx h) ∧ (∀ b h, b < 6 → zw_R nx h r b → bt (dm b) h = false) ∧
  (∀ b h, b < 6 → b < i → zw_R nx h (r + 1) b → bt (dm b) h = false) ∧ dm 0 = 1
theorem zx_dU1 {nx dm : Nat → Int32} {r : Nat} (h : zx_dU nx r 0 dm) : zx_dU nx r 1 dm := by
  obtain ⟨h1, h2, h3, h4, h5, h6, h7⟩ := h
  refine ⟨h1, h2, h3, h4, h5, ?_, h7⟩
  intro b h hb hb1 hr
  have : b = 0 := by omega
  subst this
  rw [h7, zw_b1]
  exact decide_eq_false (fun z => zw_Ane (nx := nx) (h := h) (b := 0) ⟨_, hr⟩ z.symm)
theorem zx_dUn {nx dm : Nat → Int32} {r : Nat} (h : zx_dU nx r 6 dm) : zx_dU nx (r + 1) 0 dm := by
  obtain ⟨h1, h2, h3, h4, h5, h6, h7⟩ := h
  exact ⟨h1, h2, h3, h4, fun b h hb hr => h6 b h hb hb hr, fun b h _ hb => absurd hb (by omega), h7⟩
theorem zx_dUs {nx dm : Nat → Int32} {r i : Nat} (hi : i < 6) (h : zx_dU nx r i dm) (hl : ¬ zw_L nx i) : zx_dU nx r (i + 1) dm := by
  obtain ⟨h1, h2, h3, h4, h5, h6, h7⟩ := h
  refine ⟨h1, h2, h3, h4, h5, ?_, h7⟩
  intro b h hb hbi hr
  by_cases hbi' : b = i
  · subst hbi'
    rw [h2 b hb hl, b_0]
  · exact h6 b h hb (by omega) hr
theorem zx_dUu {nx dm : Nat → Int32} {r i : Nat} {lv m : Int32} (hi : i < 6) (hi1 : 1 ≤ i) (hlv : zw_is lv (zw_L nx)) (h : zx_dU nx r i dm) (hl : zw_L nx i)
    (hm : ∀ h, bt m h = true ↔ bt lv h = true ∧ ∀ a, a < 6 → bt lv a = true → bt (nx a) i = true → bt (dm a) h = true) :
    zw_S (m ||| ((1 : Int32) <<< (nI i &&& 31))) ∧ zx_dU nx r (i + 1) (upd dm i (m ||| ((1 : Int32) <<< (nI i &&& 31)))) := by
  obtain ⟨h1, h2, h3, h4, h5, h6, h7⟩ := h
  have hmS : zw_S m := by
    intro j hj
    apply zw_tf
    intro z
    have := zw_mem hlv.1 ((hm j).mp z).1
    omega
  have hS : zw_S (m ||| ((1 : Int32) <<< (nI i &&& 31))) := zw_Sor hmS (zw_Sone hi)
  have hup : ∀ h, zw_R nx h (r + 1) i → bt (m ||| ((1 : Int32) <<< (nI i &&& 31))) h = false := by
    intro h hr
    apply zw_tf
    intro z
    obtain ⟨a, q, hq, hra, hea, hne⟩ := zw_R0 hr (by omega)
    rcases (zw_add (by omega)).mp z with z | z
    · have hz := ((hm h).mp z).2 a hea.1 ((hlv.2 a hea.1).mpr (zw_AL ⟨q, hra⟩)) hea.2.2
      rw [h5 a h hea.1 (zw_Rle (by omega) hra)] at hz
      exact absurd hz (by decide)
    · exact hne z.symm
  refine ⟨hS, ?_, ?_, ?_, ?_, ?_, ?_, ?_⟩
  · intro b hb
    by_cases hbi : b = i
    · subst hbi; rw [pk_us]; exact hS
    · rw [pk_un hbi]; exact h1 b hb
  · intro b hb hn
    by_cases hbi : b = i
    · subst hbi; exact absurd hl hn
    · rw [pk_un hbi]; exact h2 b hb hn
  · intro b h hb hd
    by_cases hbi : b = i
    · subst hbi
      rw [pk_us, zw_add (by omega)]
      by_cases hhb : h = b
      · exact Or.inr hhb
      · left
        rw [hm h]
        refine ⟨(hlv.2 h (zw_L6 hd.2.1)).mpr hd.2.1, fun a ha hla hab => ?_⟩
        exact h3 a h ha (zw_Dp hd (fun z => hhb z.symm) ⟨ha, hb, hab⟩ ((hlv.2 a ha).mp hla))
    · rw [pk_un hbi]; exact h3 b h hb hd
  · intro b h hb hbt
    by_cases hbi : b = i
    · subst hbi
      rw [pk_us, zw_add (by omega)] at hbt
      rcases hbt with z | z
      · exact zw_isl hlv ((hm h).mp z).1
      · rw [z]; exact hl
    · rw [pk_un hbi] at hbt; exact h4 b h hb hbt
  · intro b h hb hr
    by_cases hbi : b = i
    · subst hbi; rw [pk_us]; exact hup h (zw_Rm hr)
    · rw [pk_un hbi]; exact h5 b h hb hr
  · intro b h hb hbi1 hr
    by_cases hbi : b = i
    · subst hbi; rw [pk_us]; exact hup h hr
    · rw [pk_un hbi]; exact h6 b h hb (by omega) hr
  · rw [pk_un (by omega)]; exact h7
theorem zx_dUe {nx dm : Nat → Int32} {r : Nat} (hr : 6 ≤ r) (h : zx_dU nx r 0 dm) : ∀ b, b < 6 → zw_is (dm b) (fun h => zw_D nx h b) := by
  obtain ⟨h1, h2, h3, h4, h5, h6, h7⟩ := h
  intro b hb
  refine ⟨h1 b hb, fun h _ => ⟨fun z => ⟨?_, h4 b h hb z, ?_⟩, fun z => h3 b h hb z⟩⟩
  · apply Classical.byContradiction
    intro hn
    rw [h2 b hb hn, b_0] at z
    exact absurd z (by decide)
  · rintro ⟨n, hn⟩
    rw [h5 b h hb (zw_Rle hr (zw_Rs hn))] at z
    exact absurd z (by decide)
section
variable {kn lv od hc : Int32} {co bo nx dm fw bk lp ow hs we il re : Nat → Int32}
theorem zx_fd57 {post : SX → Prop} {J49 : Int32 → (Nat → Int32) → (Nat → Int32) → (Nat → Int32) → (Nat → Int32) → (Nat → Int32) → (Nat → Int32) → (Nat → Int32) → (Nat → Int32) → (Nat → Int32) → (Nat → Int32) → (Nat → Int32) → (Nat → Int32) → Prop} {x1 : Int32} {r : Nat}
    (hlv : zw_is lv (zw_L nx)) (h0 : zx_dU nx r 0 dm) (hJ : ∀ dm', zx_dU nx (r + 1) 0 dm' → J49 (x1 + 1) co bo nx dm' fw bk lp ow hs we il re) :
    ∃ n, wX_findDominators_57 post J49 x1 kn lv od hc n 1 co bo nx dm fw bk lp ow hs we il re := by
  refine pk_loop (fun n i s => wX_findDominators_57 post J49 x1 kn lv od hc n (nI i) co bo nx s fw bk lp ow hs we il re) (fun i s => 1 ≤ i ∧ zx_dU nx r i s) 6 1 dm (by decide) ⟨by decide, zx_dU1 h0⟩ ?_ ?_
  · intro n s hI
    exact br_t zw_66 (nm_e (hJ s (zx_dUn hI.2)))
  · intro n i s hi hI k
    refine br_f (zw_6 hi) (zx_in (by omega) (fun hb => nm_r (nI_1 i) (k s ⟨by omega, zx_dUs hi hI.2 ((zw_isf hlv hi).mp hb)⟩)) (fun hb => ?_))
    refine zx_meet hi ?_
    intro m hm
    obtain ⟨hS, hU⟩ := zx_dUu hi hI.1 hlv hI.2 ((hlv.2 i hi).mp hb) hm
    refine ⟨zw_i6 hi, nm_r (e' := upd s i (m ||| ((1 : Int32) <<< (nI i &&& 31)))) (by rw [zw_c6 hi, zw_nar hS]) (nm_r (nI_1 i) (k _ ⟨by omega, hU⟩))⟩
theorem zx_fd49 {post : SX → Prop} (hlv : zw_is lv (zw_L nx)) (h0 : zx_dU nx 0 0 dm) (h : ∀ dm', (∀ b, b < 6 → zw_is (dm' b) (fun h => zw_D nx h b)) → post (kn, lv, od, hc, co, bo, nx, dm', fw, bk, lp, ow, hs, we, il, re)) :
    ∃ n, wX_findDominators_49 post kn lv od hc n 0 co bo nx dm fw bk lp ow hs we il re := by
  refine loop_0 (fun n i s => wX_findDominators_49 post kn lv od hc n (nI i) co bo nx s fw bk lp ow hs we il re) (fun i s => zx_dU nx i 0 s) 36 dm h0 ?_ ?_
  · intro n s hI
    exact br_t (by decide) (h s (zx_dUe (by decide) hI))
  · intro n i s hi hI k
    refine br_f (nI_ge (b := 36) hi (by decide)) (zx_fd57 hlv hI ?_)
    intro dm' hd
    rw [nI_1]
    exact k dm' hd
theorem zx_findDominators {post : SX → Prop} (hlv : zw_is lv (zw_L nx)) (h : ∀ dm', (∀ b, b < 6 → zw_is (dm' b) (fun h => zw_D nx h b)) → post (kn, lv, od, hc, co, bo, nx, dm', fw, bk, lp, ow, hs, we, il, re)) :
    wpX_findDominators post (kn, lv, od, hc, co, bo, nx, dm, fw, bk, lp, ow, hs, we, il, re) := by
  refine loop_0 (fun n i s => wX_findDominators_2 post kn lv od hc n (nI i) co bo nx s fw bk lp ow hs we il re) (fun i s => ∀ b, b < i → (zw_L nx b → s b = lv) ∧ (¬ zw_L nx b → s b = 0)) 6 dm (fun b hb => absurd hb (by omega)) ?_ ?_
  · intro n s hI
    refine br_t zw_66 (nm_e (zx_fd49 hlv ?_ h))
    have e1 : vp_nar .short 1 = 1 := zw_nar2 zw_S1
    rw [e1]
    have hu : ∀ b, b < 6 → b ≠ 0 → (zw_L nx b ∧ upd s 0 1 b = lv) ∨ (¬ zw_L nx b ∧ upd s 0 1 b = 0) := by
      intro b hb h0
      rw [pk_un h0]
      by_cases hl : zw_L nx b
      · exact Or.inl ⟨hl, (hI b hb).1 hl⟩
      · exact Or.inr ⟨hl, (hI b hb).2 hl⟩
    have hu0 : upd s 0 1 0 = 1 := pk_us
    refine ⟨?_, ?_, ?_, ?_, ?_, fun b h _ hb => absurd hb (by omega), hu0⟩
    · intro b hb
      by_cases h0 : b = 0
      · subst h0; rw [hu0]; exact zw_S1
      · rcases hu b hb h0 with ⟨_, e⟩ | ⟨_, e⟩ <;> rw [e]
        · exact hlv.1
        · exact zw_S0
    · intro b hb hn
      by_cases h0 : b = 0
      · subst h0; exact absurd zw_L0 hn
      · rcases hu b hb h0 with ⟨hl, e⟩ | ⟨_, e⟩
        · exact absurd hl hn
        · exact e
    · intro b h hb hd
      by_cases h0 : b = 0
      · subst h0; rw [hu0, zw_D00 hd]; decide
      · rcases hu b hb h0 with ⟨_, e⟩ | ⟨hl, e⟩
        · rw [e]; exact (hlv.2 h (zw_L6 hd.2.1)).mpr hd.2.1
        · exact absurd hd.1 hl
    · intro b h hb hbt
      by_cases h0 : b = 0
      · subst h0
        rw [hu0, zw_b1, decide_eq_true_eq] at hbt
        rw [hbt]; exact zw_L0
      · rcases hu b hb h0 with ⟨_, e⟩ | ⟨_, e⟩ <;> rw [e] at hbt
        · exact zw_isl hlv hbt
        · rw [b_0] at hbt; exact absurd hbt (by decide)
    · intro b h hb hr
      have h0 := hr.1
      subst h0
      rw [hu0, zw_b1]
      exact decide_eq_false (fun z => hr.2 z.symm)
  · intro n i s hi hI k
    refine br_f (zw_6 hi) (zx_in (by omega) (fun hb => ⟨zw_i6 hi, nm_r (e' := upd s i 0) (by rw [zw_c6 hi]; rfl) (nm_r (nI_1 i) (k _ ?_))⟩) (fun hb => ⟨zw_i6 hi, nm_r (e' := upd s i lv) (by rw [zw_c6 hi, zw_nar hlv.1]) (nm_r (nI_1 i) (k _ ?_))⟩))
    · intro b hbi
      by_cases hbe : b = i
      · subst hbe
        exact ⟨fun hl => absurd hl ((zw_isf hlv hi).mp hb), fun _ => pk_us⟩
      · rw [pk_un hbe]
        exact hI b (by omega)
    · intro b hbi
      by_cases hbe : b = i
      · subst hbe
        exact ⟨fun _ => pk_us, fun hl => absurd ((hlv.2 b hi).mp hb) hl⟩
      · rw [pk_un hbe]
        exact hI b (by omega)
/-! splitEdges -/
end
def zx_sp (nx : Nat → Int32) (i j : Nat) (fw bk : Nat → Int32) : Prop :=
  (∀ a, a < 6 → zw_is (fw a) (fun b => (a < i ∨ (a = i ∧ b < j)) ∧ zw_F nx a b)) ∧ (∀ h, h < 6 → zw_is (bk h) (fun a => (a < i ∨ (a = i ∧ h < j)) ∧ zw_B nx a h))
theorem zx_sp0 {nx fw bk : Nat → Int32} {i j : Nat} (h : zx_sp nx i j fw bk) (hj : j < 6) (hF : ¬ zw_F nx i j) (hB : ¬ zw_B nx i j) : zx_sp nx i (j + 1) fw bk := by
  constructor
  · intro a ha
    refine zw_isc (h.1 a ha) (fun b _ => ?_)
    constructor
    · rintro ⟨h1, h2⟩; exact ⟨by omega, h2⟩
    · rintro ⟨h1, h2⟩
      refine ⟨?_, h2⟩
      rcases h1 with h1 | ⟨h1, h3⟩
      · exact Or.inl h1
      · refine Or.inr ⟨h1, ?_⟩
        have : b ≠ j := fun z => hF (by rw [← z, ← h1]; exact h2)
        omega
  · intro c hc
    refine zw_isc (h.2 c hc) (fun a _ => ?_)
    constructor
    · rintro ⟨h1, h2⟩; exact ⟨by omega, h2⟩
    · rintro ⟨h1, h2⟩
      refine ⟨?_, h2⟩
      rcases h1 with h1 | ⟨h1, h3⟩
      · exact Or.inl h1
      · refine Or.inr ⟨h1, ?_⟩
        have : c ≠ j := fun z => hB (by rw [← z, ← h1]; exact h2)
        omega
theorem zx_spF {nx fw bk : Nat → Int32} {i j : Nat} (h : zx_sp nx i j fw bk) (hi : i < 6) (hj : j < 6) (hF : zw_F nx i j) : zw_S (fw i ||| ((1 : Int32) <<< (nI j &&& 31))) ∧ zx_sp nx i (j + 1) (upd fw i (fw i ||| ((1 : Int32) <<< (nI j &&& 31)))) bk := by
  have hB : ¬ zw_B nx i j := fun z => hF.2.2 z.2.2
  refine ⟨(zw_isa (h.1 i hi) hj).1, ?_, ?_⟩
  · intro a ha
    by_cases hai : a = i
    · subst hai
      rw [pk_us]
      refine zw_isc (zw_isa (h.1 a ha) hj) (fun b _ => ?_)
      constructor
      · rintro (⟨h1, h2⟩ | rfl)
        · exact ⟨by omega, h2⟩
        · exact ⟨by omega, hF⟩
      · rintro ⟨h1, h2⟩
        by_cases hbj : b = j
        · exact Or.inr hbj
        · exact Or.inl ⟨by omega, h2⟩
    · rw [pk_un hai]
      refine zw_isc (h.1 a ha) (fun b _ => ?_)
      constructor
      · rintro ⟨h1, h2⟩; exact ⟨by omega, h2⟩
      · rintro ⟨h1, h2⟩; exact ⟨by omega, h2⟩
  · intro c hc
    refine zw_isc (h.2 c hc) (fun a _ => ?_)
    constructor
    · rintro ⟨h1, h2⟩; exact ⟨by omega, h2⟩
    · rintro ⟨h1, h2⟩
      refine ⟨?_, h2⟩
      rcases h1 with h1 | ⟨h1, h3⟩
      · exact Or.inl h1
      · refine Or.inr ⟨h1, ?_⟩
        have : c ≠ j := fun z => hB (by rw [← z, ← h1]; exact h2)
        omega
theorem zx_spB {nx fw bk : Nat → Int32} {i j : Nat} (h : zx_sp nx i j fw bk) (hi : i < 6) (hj : j < 6) (hB : zw_B nx i j) : zw_S (bk j ||| ((1 : Int32) <<< (nI i &&& 31))) ∧ zx_sp nx i (j + 1) fw (upd bk j (bk j ||| ((1 : Int32) <<< (nI i &&& 31)))) := by
  have hF : ¬ zw_F nx i j := fun z => z.2.2 hB.2.2
  refine ⟨(zw_isa (h.2 j hj) hi).1, ?_, ?_⟩
  · intro a ha
    refine zw_isc (h.1 a ha) (fun b _ => ?_)
    constructor
    · rintro ⟨h1, h2⟩; exact ⟨by omega, h2⟩
    · rintro ⟨h1, h2⟩
      refine ⟨?_, h2⟩
      rcases h1 with h1 | ⟨h1, h3⟩
      · exact Or.inl h1
      · refine Or.inr ⟨h1, ?_⟩
        have : b ≠ j := fun z => hF (by rw [← z, ← h1]; exact h2)
        omega
  · intro c hc
    by_cases hcj : c = j
    · subst hcj
      rw [pk_us]
      refine zw_isc (zw_isa (h.2 c hc) hi) (fun a _ => ?_)
      constructor
      · rintro (⟨h1, h2⟩ | rfl)
        · exact ⟨by omega, h2⟩
        · exact ⟨by omega, hB⟩
      · rintro ⟨h1, h2⟩
        by_cases hai : a = i
        · exact Or.inr hai
        · exact Or.inl ⟨by omega, h2⟩
    · rw [pk_un hcj]
      refine zw_isc (h.2 c hc) (fun a _ => ?_)
      constructor
      · rintro ⟨h1, h2⟩; exact ⟨by omega, h2⟩
      · rintro ⟨h1, h2⟩; exact ⟨by omega, h2⟩
theorem zx_spn {nx fw bk : Nat → Int32} {i : Nat} (h : zx_sp nx i 6 fw bk) : zx_sp nx (i + 1) 0 fw bk := by
  constructor
  · intro a ha
    exact zw_isc (h.1 a ha) (fun b hb => ⟨fun ⟨h1, h2⟩ => ⟨by omega, h2⟩, fun ⟨h1, h2⟩ => ⟨by omega, h2⟩⟩)
  · intro c hc
    exact zw_isc (h.2 c hc) (fun a _ => ⟨fun ⟨h1, h2⟩ => ⟨by omega, h2⟩, fun ⟨h1, h2⟩ => ⟨by omega, h2⟩⟩)
section
variable {kn lv od hc : Int32} {co bo nx dm fw bk lp ow hs we il re : Nat → Int32}
theorem zx_se38 {post : SX → Prop} {J30 : Int32 → (Nat → Int32) → (Nat → Int32) → (Nat → Int32) → (Nat → Int32) → (Nat → Int32) → (Nat → Int32) → (Nat → Int32) → (Nat → Int32) → (Nat → Int32) → (Nat → Int32) → (Nat → Int32) → (Nat → Int32) → Prop} {i : Nat} (hi : i < 6)
    (hlv : zw_is lv (zw_L nx)) (hdm : ∀ b, b < 6 → zw_is (dm b) (fun h => zw_D nx h b)) (h0 : zx_sp nx i 0 fw bk) (hJ : ∀ fw' bk', zx_sp nx (i + 1) 0 fw' bk' → J30 (nI i + 1) co bo nx dm fw' bk' lp ow hs we il re) :
    ∃ n, wX_splitEdges_38 post J30 (nI i) kn lv od hc n 0 co bo nx dm fw bk lp ow hs we il re := by
  refine loop_0 (fun n j (s : (Nat → Int32) × (Nat → Int32)) => wX_splitEdges_38 post J30 (nI i) kn lv od hc n (nI j) co bo nx dm (s.1) (s.2) lp ow hs we il re) (fun j s => zx_sp nx i j s.1 s.2) 6 (fw, bk) h0 ?_ ?_
  · rintro n ⟨f, g⟩ hI
    exact br_t zw_66 (nm_e (hJ f g (zx_spn hI)))
  · rintro n j ⟨f, g⟩ hj hI k
    dsimp only at hI k ⊢
    refine br_f (zw_6 hj) (zx_in (by omega) (fun h1 => nm_r (nI_1 j) (k (f, g) (zx_sp0 hI hj (fun z => (zw_isf hlv hi).mp h1 z.2.1) (fun z => (zw_isf hlv hi).mp h1 z.2.1)))) (fun h1 => ⟨zw_i6 hi, ?_⟩))
    rw [zw_c6 hi]
    refine zx_in (by omega) (fun h2 => nm_r (nI_1 j) (k (f, g) (zx_sp0 hI hj (fun z => ?_) (fun z => ?_)))) (fun h2 => ⟨zw_i6 hi, ?_⟩)
    · have := z.1.2.2; rw [h2] at this; exact absurd this (by decide)
    · have := z.1.2.2; rw [h2] at this; exact absurd this (by decide)
    have hE : zw_E nx i j := ⟨hi, hj, h2⟩
    have hL : zw_L nx i := (hlv.2 i hi).mp h1
    refine zx_in (by omega) (fun h3 => ?_) (fun h3 => ?_)
    · have hF : zw_F nx i j := ⟨hE, hL, (zw_isf (hdm i hi) hj).mp h3⟩
      obtain ⟨hS, hU⟩ := zx_spF hI hi hj hF
      exact ⟨zw_i6 hi, zw_i6 hi, nm_r (e' := upd f i (f i ||| ((1 : Int32) <<< (nI j &&& 31)))) (by rw [zw_nar hS]) (nm_r (nI_1 j) (k (_, g) hU))⟩
    · have hB : zw_B nx i j := ⟨hE, hL, ((hdm i hi).2 j hj).mp h3⟩
      obtain ⟨hS, hU⟩ := zx_spB hI hi hj hB
      exact ⟨zw_i6 hj, zw_i6 hj, nm_r (e' := upd g j (g j ||| ((1 : Int32) <<< (nI i &&& 31)))) (by rw [zw_c6 hj, zw_nar hS]) (nm_r (nI_1 j) (k (f, _) hU))⟩
theorem zx_se30 {post : SX → Prop} (hlv : zw_is lv (zw_L nx)) (hdm : ∀ b, b < 6 → zw_is (dm b) (fun h => zw_D nx h b)) (h0 : zx_sp nx 0 0 fw bk)
    (h : ∀ fw' bk', (∀ a, a < 6 → zw_is (fw' a) (fun b => zw_F nx a b)) → (∀ h, h < 6 → zw_is (bk' h) (fun a => zw_B nx a h)) → post (kn, lv, od, hc, co, bo, nx, dm, fw', bk', lp, ow, hs, we, il, re)) :
    ∃ n, wX_splitEdges_30 post kn lv od hc n 0 co bo nx dm fw bk lp ow hs we il re := by
  refine loop_0 (fun n j (s : (Nat → Int32) × (Nat → Int32)) => wX_splitEdges_30 post kn lv od hc n (nI j) co bo nx dm (s.1) (s.2) lp ow hs we il re) (fun j s => zx_sp nx j 0 s.1 s.2) 6 (fw, bk) h0 ?_ ?_
  · rintro n ⟨f, g⟩ hI
    refine br_t zw_66 (h f g ?_ ?_)
    · exact fun a ha => zw_isc (hI.1 a ha) (fun b _ => ⟨fun z => z.2, fun z => ⟨Or.inl ha, z⟩⟩)
    · exact fun c hc => zw_isc (hI.2 c hc) (fun a ha => ⟨fun z => z.2, fun z => ⟨Or.inl ha, z⟩⟩)
  · rintro n j ⟨f, g⟩ hj hI k
    refine br_f (zw_6 hj) (zx_se38 hj hlv hdm hI ?_)
    intro f' g' h'
    rw [nI_1]
    exact k (f', g') h'
theorem zx_splitEdges {post : SX → Prop} (hlv : zw_is lv (zw_L nx)) (hdm : ∀ b, b < 6 → zw_is (dm b) (fun h => zw_D nx h b))
    (h : ∀ fw' bk', (∀ a, a < 6 → zw_is (fw' a) (fun b => zw_F nx a b)) → (∀ h, h < 6 → zw_is (bk' h) (fun a => zw_B nx a h)) → post (kn, lv, od, hc, co, bo, nx, dm, fw', bk', lp, ow, hs, we, il, re)) :
    wpX_splitEdges post (kn, lv, od, hc, co, bo, nx, dm, fw, bk, lp, ow, hs, we, il, re) := by
  refine loop_0 (fun n j (s : (Nat → Int32) × (Nat → Int32)) => wX_splitEdges_2 post kn lv od hc n (nI j) co bo nx dm (s.1) (s.2) lp ow hs we il re) (fun j s => ∀ b, b < j → s.1 b = 0 ∧ s.2 b = 0) 6 (fw, bk) (fun b hb => absurd hb (by omega)) ?_ ?_
  · rintro n ⟨f, g⟩ hI
    refine br_t zw_66 (zx_se30 hlv hdm ⟨?_, ?_⟩ h)
    · intro a ha
      rw [(hI a ha).1]
      exact zw_is0 (fun b _ z => by omega)
    · intro a ha
      rw [(hI a ha).2]
      exact zw_is0 (fun b _ z => by omega)
  · rintro n j ⟨f, g⟩ hj hI k
    have e0 : vp_nar .short 0 = 0 := zw_nar2 zw_S0
    refine br_f (zw_6 hj) ⟨zw_i6 hj, nm_r (e' := upd f j 0) (by rw [zw_c6 hj, e0]) ⟨zw_i6 hj, nm_r (e' := upd g j 0) (by rw [zw_c6 hj, e0]) (nm_r (nI_1 j) (k (upd f j 0, upd g j 0) ?_))⟩⟩
    intro b hb
    show upd f j 0 b = 0 ∧ upd g j 0 b = 0
    by_cases hbj : b = j
    · subst hbj; exact ⟨pk_us, pk_us⟩
    · rw [pk_un hbj, pk_un hbj]; exact hI b (by omega)
end
end
section
/-! sizeOf -/
theorem zw_npt {P : Nat → Prop} {i : Nat} (hi : i < 6) (h : P i) : zw_n (fun b => b < i + 1 ∧ P b) = zw_n (fun b => b < i ∧ P b) + 1 := by
  refine zw_na hi (fun z => absurd z.1 (by omega)) (fun j _ => ?_)
  constructor
  · rintro ⟨h1, h2⟩
    by_cases hj : j = i
    · exact Or.inr hj
    · exact Or.inl ⟨by omega, h2⟩
  · rintro (⟨h1, h2⟩ | rfl)
    · exact ⟨by omega, h2⟩
    · exact ⟨by omega, h⟩
theorem zw_npf {P : Nat → Prop} {i : Nat} (h : ¬ P i) : zw_n (fun b => b < i + 1 ∧ P b) = zw_n (fun b => b < i ∧ P b) := by
  refine zw_ne (fun j _ => ?_)
  constructor
  · rintro ⟨h1, h2⟩
    have : j ≠ i := fun z => h (z ▸ h2)
    exact ⟨by omega, h2⟩
  · rintro ⟨h1, h2⟩
    exact ⟨by omega, h2⟩
theorem zx_sizeOf {post : Int32 → Prop} {x : Int32} {P : Nat → Prop} (hx : zw_is x P) (h : post (nI (zw_n P))) : wpX_sizeOf post x := by
  refine loop_0 (fun n i s => wX_sizeOf_4 post x n s (nI i)) (fun i s => s = nI (zw_n (fun b => b < i ∧ P b))) 6 0 ?_ ?_ ?_
  · show (0 : Int32) = nI _
    rw [zw_n0 (fun i _ z => by omega), nI_0]
  · intro n s hI
    refine br_t zw_66 ?_
    rw [hI, zw_ne (Q := P) (fun i hi => ⟨fun z => z.2, fun z => ⟨hi, z⟩⟩)]
    exact h
  · intro n i s hi hI k
    refine br_f (zw_6 hi) (nm_e (nm_r (nI_1 i) (k _ ?_)))
    rw [hI, zw_bit (by omega)]
    by_cases hp : P i
    · rw [if_pos ((hx.2 i hi).mpr hp), nI_1, zw_npt hi hp]
    · rw [if_neg (fun z => hp ((hx.2 i hi).mp z)), Int32.add_zero, zw_npf hp]
/-! loopOf -/
theorem zx_lo {nx : Nat → Int32} {s : Int32} {h i : Nat} (hh : h < 6) (hi : i < 6) (hnx : zw_S (nx i)) :
    ((nx i &&& s) &&& (((1 : Int32) <<< (nI h &&& 31)) ^^^ (-1))) = 0 ↔ ¬ ∃ c, zw_E nx i c ∧ c ≠ h ∧ bt s c = true := by
  rw [zw_zero (zw_Sand (zw_Sand hnx))]
  constructor
  · rintro z ⟨c, he, hc, hs⟩
    have := z c he.2.1
    rw [b_and, b_and, zw_not (by have := he.2.1; omega), zw_one' (by omega), he.2.2, hs, decide_eq_false hc] at this
    exact absurd this (by decide)
  · intro z c hc
    apply zw_tf
    intro hb
    rw [zw_and, zw_and, zw_not (by omega), zw_one' (by omega)] at hb
    refine z ⟨c, ⟨hi, hc, hb.1.1⟩, ?_, hb.1.2⟩
    intro hch
    rw [decide_eq_true hch] at hb
    exact absurd hb.2 (by decide)
section
variable {kn lv od hc : Int32} {co bo nx dm fw bk lp ow hs we il re : Nat → Int32}
theorem zx_lo33 {post : Int32 → Prop} {J24 : Int32 → Int32 → Prop} {x3 : Int32} {h r : Nat} {s0 : Int32} (hh : h < 6) (hnx : ∀ a, a < 6 → zw_S (nx a)) (hlv : zw_is lv (zw_L nx)) (hS : zw_S s0)
    (h1 : ∀ b, zw_P nx h r b → bt s0 b = true) (h2 : ∀ b, bt s0 b = true → zw_I nx h b)
    (hJ : ∀ s, zw_S s → (∀ b, zw_P nx h (r + 1) b → bt s b = true) → (∀ b, bt s b = true → zw_I nx h b) → J24 s (x3 + 1)) :
    ∃ n, wX_loopOf_33 post J24 (nI h) x3 kn lv od hc co bo nx dm fw bk lp ow hs we il re n s0 0 := by
  refine loop_0 (fun n i s => wX_loopOf_33 post J24 (nI h) x3 kn lv od hc co bo nx dm fw bk lp ow hs we il re n s (nI i))
    (fun i s => zw_S s ∧ (∀ b, bt s0 b = true → bt s b = true) ∧ (∀ b, bt s b = true → zw_I nx h b) ∧ ∀ a, a < i → zw_L nx a → (∃ c, zw_E nx a c ∧ c ≠ h ∧ bt s0 c = true) → bt s a = true) 6 s0
    ⟨hS, fun _ z => z, h2, fun a ha => absurd ha (by omega)⟩ ?_ ?_
  · intro n s hI
    refine br_t zw_66 (nm_e (hJ s hI.1 ?_ hI.2.2.1))
    intro b hb
    rcases hb with hb | ⟨hl, c, he, hc, hp⟩
    · exact hI.2.1 b (h1 b hb)
    · exact hI.2.2.2 b he.1 hl ⟨c, he, hc, h1 c hp⟩
  · intro n i s hi hI k
    have keep : (zw_L nx i → ¬ ∃ c, zw_E nx i c ∧ c ≠ h ∧ bt s c = true) → ∀ a, a < i + 1 → zw_L nx a → (∃ c, zw_E nx a c ∧ c ≠ h ∧ bt s0 c = true) → bt s a = true := by
      intro hno a ha hl hc
      by_cases hai : a = i
      · subst hai
        obtain ⟨c, he, hc, hs⟩ := hc
        exact absurd ⟨c, he, hc, hI.2.1 c hs⟩ (hno hl)
      · exact hI.2.2.2 a (by omega) hl hc
    refine br_f (zw_6 hi) (zx_in (by omega) (fun hb => nm_r (nI_1 i) (k s ⟨hI.1, hI.2.1, hI.2.2.1, keep (fun z => absurd z ((zw_isf hlv hi).mp hb))⟩)) (fun hb => ⟨zw_i6 hi, ?_⟩))
    rw [zw_c6 hi]
    refine ek_if (zx_lo hh hi (hnx i hi)) (fun hn => nm_r (nI_1 i) (k s ⟨hI.1, hI.2.1, hI.2.2.1, keep (fun _ => hn)⟩)) (fun hn => nm_e (nm_r (nI_1 i) (k _ ⟨zw_Sor hI.1 (zw_Sone hi), fun b z => (zw_add (by omega)).mpr (Or.inl (hI.2.1 b z)), ?_, ?_⟩)))
    · intro b z
      rcases (zw_add (by omega)).mp z with z | z
      · exact hI.2.2.1 b z
      · obtain ⟨c, he, hc, hs⟩ := Classical.not_not.mp hn
        rw [z]
        exact zw_Is he ((hlv.2 i hi).mp hb) (hI.2.2.1 c hs) hc
    · intro a ha hl hc
      by_cases hai : a = i
      · exact (zw_add (by omega)).mpr (Or.inr hai)
      · exact (zw_add (by omega)).mpr (Or.inl (hI.2.2.2 a (by omega) hl hc))
theorem zx_loopOf {post : Int32 → Prop} {h : Nat} (hh : h < 6) (hnx : ∀ a, a < 6 → zw_S (nx a)) (hlv : zw_is lv (zw_L nx)) (hbk : zw_is (bk h) (fun a => zw_B nx a h))
    (hp : ∀ r, zw_is r (zw_I nx h) → post r) : wpX_loopOf post (kn, lv, od, hc, co, bo, nx, dm, fw, bk, lp, ow, hs, we, il, re) (nI h) := by
  refine ⟨zw_i6 hh, ?_⟩
  rw [zw_c6 hh]
  refine br_c (fun z => hp 0 (zw_is0 (fun b _ hb => ?_))) (fun z => ⟨zw_i6 hh, nm_e ?_⟩)
  · obtain ⟨a, ha⟩ := zw_Ie hb
    exact (zw_isz hbk).mp z a ha.1.1 ha
  · have hex : ∃ a, zw_B nx a h := by
      obtain ⟨a, ha, hb⟩ := (zw_nz hbk.1).mp z
      exact ⟨a, (hbk.2 a ha).mp hb⟩
    have h0 := zw_isa hbk hh
    refine loop_0 (fun n i s => wX_loopOf_24 post (nI h) kn lv od hc co bo nx dm fw bk lp ow hs we il re n s (nI i)) (fun i s => zw_S s ∧ (∀ b, zw_P nx h i b → bt s b = true) ∧ (∀ b, bt s b = true → zw_I nx h b)) 6 _ ⟨h0.1, ?_, ?_⟩ ?_ ?_
    · intro b hb
      rcases hb with ⟨rfl, _⟩ | hb
      · exact (h0.2 b hh).mpr (Or.inr rfl)
      · exact (h0.2 b hb.1.1).mpr (Or.inl hb)
    · intro b hb
      rcases zw_isl h0 hb with z | z
      · exact zw_Ib z
      · obtain ⟨a, ha⟩ := hex
        rw [z]; exact zw_Ih ha
    · intro n s hI
      exact br_t zw_66 (hp s ⟨hI.1, fun b _ => ⟨hI.2.2 b, fun ⟨n, hn⟩ => hI.2.1 b (zw_Ps hn)⟩⟩)
    · intro n i s hi hI k
      refine br_f (zw_6 hi) (zx_lo33 hh hnx hlv hI.1 hI.2.1 hI.2.2 ?_)
      intro s' a b c
      rw [nI_1]
      exact k s' ⟨a, b, c⟩
/-! before -/
theorem zx_before {post : Int32 → Prop} {b : Nat} (hb : b < 6) (hfw : ∀ a, a < 6 → zw_is (fw a) (fun b => zw_F nx a b)) (hp : ∀ r, zw_is r (fun a => zw_F nx a b) → post r) :
    wpX_before post (kn, lv, od, hc, co, bo, nx, dm, fw, bk, lp, ow, hs, we, il, re) (nI b) := by
  refine loop_0 (fun n i s => wX_before_4 post (nI b) kn lv od hc co bo nx dm fw bk lp ow hs we il re n s (nI i)) (fun i s => zw_is s (fun a => a < i ∧ zw_F nx a b)) 6 0 (zw_is0 (fun _ _ z => by omega)) ?_ ?_
  · intro n s hI
    exact br_t zw_66 (hp s (zw_isc hI (fun a ha => ⟨fun z => z.2, fun z => ⟨ha, z⟩⟩)))
  · intro n i s hi hI k
    refine br_f (zw_6 hi) ⟨zw_i6 hi, ?_⟩
    rw [zw_c6 hi]
    refine zx_in (by omega) (fun h0 => nm_r (nI_1 i) (k s (zw_isc hI (fun a _ => ?_)))) (fun h0 => nm_e (nm_r (nI_1 i) (k _ (zw_isc (zw_isa hI hi) (fun a _ => ?_)))))
    · have hn := (zw_isf (hfw i hi) hb).mp h0
      constructor
      · rintro ⟨h1, h2⟩; exact ⟨by omega, h2⟩
      · rintro ⟨h1, h2⟩
        have : a ≠ i := fun z => hn (z ▸ h2)
        exact ⟨by omega, h2⟩
    · have hy := ((hfw i hi).2 b hb).mp h0
      constructor
      · rintro (⟨h1, h2⟩ | rfl)
        · exact ⟨by omega, h2⟩
        · exact ⟨by omega, hy⟩
      · rintro ⟨h1, h2⟩
        by_cases hai : a = i
        · exact Or.inr hai
        · exact Or.inl ⟨by omega, h2⟩
end
/-! sort -/
def zx_so (nx : Nat → Int32) (r i : Nat) (l od : Int32) (ow : Nat → Int32) : Prop :=
  ∃ (m : Nat) (o : Nat → Nat), od = nI m ∧ zw_S l ∧ (∀ b, bt l b = true → zw_L nx b) ∧ m = zw_n (fun b => bt l b = true) ∧
  (∀ k, k < m → ow k = nI (o k) ∧ bt l (o k) = true) ∧ (∀ b, bt l b = true → ∃ k, k < m ∧ o k = b) ∧
  (∀ j k, j < m → k < m → o j = o k → j = k) ∧ (∀ k a, k < m → zw_F nx a (o k) → ∃ j, j < k ∧ o j = a) ∧
  (¬ zw_G nx → ∀ b, zw_L nx b → (zw_k nx b < r ∨ (zw_k nx b = r ∧ b < i)) → bt l b = true)
theorem zx_son {nx ow : Nat → Int32} {r : Nat} {l od : Int32} (h : zx_so nx r 6 l od ow) : zx_so nx (r + 1) 0 l od ow := by
  obtain ⟨m, o, h1, h2, h3, h4, h5, h6, h7, h8, h9⟩ := h
  refine ⟨m, o, h1, h2, h3, h4, h5, h6, h7, h8, fun hg b hb hk => h9 hg b hb ?_⟩
  have := zw_L6 hb
  omega
theorem zx_so0 {nx ow : Nat → Int32} {r i : Nat} {l od : Int32} (h : zx_so nx r i l od ow) (hn : ¬ zw_G nx → zw_L nx i → zw_k nx i = r → bt l i = true) : zx_so nx r (i + 1) l od ow := by
  obtain ⟨m, o, h1, h2, h3, h4, h5, h6, h7, h8, h9⟩ := h
  refine ⟨m, o, h1, h2, h3, h4, h5, h6, h7, h8, fun hg b hb hk => ?_⟩
  by_cases hbi : b = i
  · subst hbi
    by_cases hkr : zw_k nx b = r
    · exact hn hg hb hkr
    · exact h9 hg b hb (Or.inl (by omega))
  · exact h9 hg b hb (by omega)
theorem zx_soa {nx ow : Nat → Int32} {r i : Nat} {l od : Int32} (hi : i < 6) (h : zx_so nx r i l od ow) (hL : zw_L nx i) (hn : bt l i = false) (hp : ∀ a, zw_F nx a i → bt l a = true) :
    ∃ m, m < 6 ∧ od = nI m ∧ zx_so nx r (i + 1) (l ||| ((1 : Int32) <<< (nI i &&& 31))) (nI (m + 1)) (upd ow m (nI i)) := by
  obtain ⟨m, o, h1, h2, h3, h4, h5, h6, h7, h8, h9⟩ := h
  have hc : zw_n (fun b => bt (l ||| ((1 : Int32) <<< (nI i &&& 31))) b = true) = m + 1 := by
    rw [h4]
    refine zw_na hi (by rw [hn]; decide) (fun j _ => ?_)
    exact zw_add (by omega)
  have hm6 : m < 6 := by
    have := zw_n6 (fun b => bt (l ||| ((1 : Int32) <<< (nI i &&& 31))) b = true)
    omega
  have hold : ∀ k, k < m → (if k = m then i else o k) = o k := fun k hk => if_neg (by omega)
  have hnew : (if m = m then i else o m) = i := if_pos rfl
  have hne : ∀ k, k < m → o k ≠ i := by
    intro k hk z
    have := (h5 k hk).2
    rw [z, hn] at this
    exact absurd this (by decide)
  refine ⟨m, hm6, h1, m + 1, fun k => if k = m then i else o k, rfl, zw_Sor h2 (zw_Sone hi), ?_, hc.symm, ?_, ?_, ?_, ?_, ?_⟩
  · intro b hb
    rcases (zw_add (by omega)).mp hb with z | z
    · exact h3 b z
    · rw [z]; exact hL
  · intro k hk
    by_cases hkm : k = m
    · subst hkm
      show upd ow k (nI i) k = nI (if k = k then i else o k) ∧ bt _ (if k = k then i else o k) = true
      rw [hnew, pk_us]
      exact ⟨rfl, (zw_add (by omega)).mpr (Or.inr rfl)⟩
    · show upd ow m (nI i) k = nI (if k = m then i else o k) ∧ bt _ (if k = m then i else o k) = true
      rw [if_neg hkm, pk_un hkm]
      exact ⟨(h5 k (by omega)).1, (zw_add (by omega)).mpr (Or.inl (h5 k (by omega)).2)⟩
  · intro b hb
    rcases (zw_add (by omega)).mp hb with z | z
    · obtain ⟨k, hk, hk2⟩ := h6 b z
      exact ⟨k, by omega, (hold k hk).trans hk2⟩
    · exact ⟨m, by omega, hnew.trans z.symm⟩
  · intro j k hj hk hjk
    dsimp only at hjk
    by_cases hjm : j = m
    · by_cases hkm : k = m
      · omega
      · rw [if_pos hjm, if_neg hkm] at hjk
        exact absurd hjk.symm (hne k (by omega))
    · by_cases hkm : k = m
      · rw [if_neg hjm, if_pos hkm] at hjk
        exact absurd hjk (hne j (by omega))
      · rw [if_neg hjm, if_neg hkm] at hjk
        exact h7 j k (by omega) (by omega) hjk
  · intro k a hk hf
    dsimp only at hf
    by_cases hkm : k = m
    · rw [if_pos hkm] at hf
      obtain ⟨j, hj, hj2⟩ := h6 a (hp a hf)
      exact ⟨j, by omega, (hold j hj).trans hj2⟩
    · rw [if_neg hkm] at hf
      obtain ⟨j, hj, hj2⟩ := h8 k a (by omega) hf
      exact ⟨j, hj, (hold j (by omega)).trans hj2⟩
  · intro hg b hb hk
    by_cases hbi : b = i
    · exact (zw_add (by omega)).mpr (Or.inr hbi)
    · exact (zw_add (by omega)).mpr (Or.inl (h9 hg b hb (by omega)))
def zx_Or (nx : Nat → Int32) (od : Int32) (ow : Nat → Int32) : Prop :=
  ∃ (m : Nat) (o : Nat → Nat), od = nI m ∧ m ≤ 6 ∧ (∀ k, k < m → ow k = nI (o k)) ∧ (m = zw_n (zw_L nx) ↔ ¬ zw_G nx) ∧ (¬ zw_G nx → zw_O nx m o)
theorem zx_soe {nx ow : Nat → Int32} {l od : Int32} (h : zx_so nx 6 0 l od ow) : zx_Or nx od ow := by
  obtain ⟨m, o, h1, h2, h3, h4, h5, h6, h7, h8, h9⟩ := h
  have hall : ¬ zw_G nx → ∀ b, zw_L nx b → bt l b = true := fun hg b hb => h9 hg b hb (Or.inl (zw_k6 hg (zw_L6 hb)))
  have hm6 : m ≤ 6 := by
    have := zw_n6 (fun b => bt l b = true)
    omega
  refine ⟨m, o, h1, hm6, fun k hk => (h5 k hk).1, ⟨?_, ?_⟩, ?_⟩
  · intro hm
    have hb : ∀ b, zw_L nx b → bt l b = true := by
      intro b hb
      apply Classical.byContradiction
      intro hn
      have := zw_ns (P := fun b => bt l b = true) (Q := zw_L nx) (fun i _ => h3 i) (zw_L6 hb) hb hn
      omega
    have hps : ∀ b, ∃ p : Nat, zw_L nx b → p < m ∧ o p = b := by
      intro b
      by_cases hl : zw_L nx b
      · obtain ⟨k, hk⟩ := h6 b (hb b hl)
        exact ⟨k, fun _ => hk⟩
      · exact ⟨0, fun z => absurd z hl⟩
    refine zw_Gno (ps := fun b => (hps b).choose) ?_
    intro a b hf
    have ha := (hps a).choose_spec hf.2.1
    have hb := (hps b).choose_spec (zw_FL hf)
    show (hps a).choose < (hps b).choose
    generalize (hps a).choose = pa at *
    generalize (hps b).choose = pb at *
    have hf2 : zw_F nx a (o pb) := by rw [hb.2]; exact hf
    obtain ⟨j, hj, hj2⟩ := h8 pb a hb.1 hf2
    have := h7 j pa (by omega) ha.1 (hj2.trans ha.2.symm)
    omega
  · intro hg
    rw [h4]
    exact zw_ne (fun b _ => ⟨h3 b, hall hg b⟩)
  · intro hg
    exact ⟨hm6, fun k hk => ⟨zw_mem h2 (h5 k hk).2, h3 _ (h5 k hk).2⟩, h7, h8, fun b hb => h6 b (hall hg b hb)⟩
section
variable {kn lv od hc : Int32} {co bo nx dm fw bk lp ow hs we il re : Nat → Int32}
theorem zx_so17 {post : SX → Prop} {J9 : Int32 → Int32 → Int32 → (Nat → Int32) → (Nat → Int32) → (Nat → Int32) → (Nat → Int32) → (Nat → Int32) → (Nat → Int32) → (Nat → Int32) → (Nat → Int32) → (Nat → Int32) → (Nat → Int32) → (Nat → Int32) → (Nat → Int32) → Prop} {l x2 : Int32} {r : Nat}
    (hlv : zw_is lv (zw_L nx)) (hfw : ∀ a, a < 6 → zw_is (fw a) (fun b => zw_F nx a b)) (h0 : zx_so nx r 0 l od ow)
    (hJ : ∀ l' od' ow', zx_so nx (r + 1) 0 l' od' ow' → J9 l' (x2 + 1) od' co bo nx dm fw bk lp ow' hs we il re) :
    ∃ n, wX_sort_17 post J9 x2 kn lv hc n l 0 od co bo nx dm fw bk lp ow hs we il re := by
  refine loop_0 (fun n i (s : Int32 × Int32 × (Nat → Int32)) => wX_sort_17 post J9 x2 kn lv hc n s.1 (nI i) s.2.1 co bo nx dm fw bk lp (s.2.2) hs we il re) (fun i s => zx_so nx r i s.1 s.2.1 s.2.2) 6 (l, od, ow) h0 ?_ ?_
  · rintro n ⟨l', od', ow'⟩ hI
    exact br_t zw_66 (nm_e (hJ l' od' ow' (zx_son hI)))
  · rintro n i ⟨l', od', ow'⟩ hi hI k
    dsimp only at hI k ⊢
    refine br_f (zw_6 hi) (zx_in (by omega) (fun h1 => nm_r (nI_1 i) (k (l', od', ow') (zx_so0 hI (fun _ z => absurd z ((zw_isf hlv hi).mp h1))))) (fun h1 => ?_))
    refine zx_in (by omega) (fun h2 => ?_) (fun h2 => nm_r (nI_1 i) (k (l', od', ow') (zx_so0 hI (fun _ _ _ => h2))))
    refine zx_before hi hfw ?_
    intro q hq
    have hiff : (q &&& (l' ^^^ (-1))) = 0 ↔ ∀ a, zw_F nx a i → bt l' a = true := by
      rw [zw_zero (zw_Sand hq.1)]
      constructor
      · intro z a ha
        have := z a ha.1.1
        rw [b_and, (hq.2 a ha.1.1).mpr ha, zw_not (by have := ha.1.1; omega)] at this
        cases hb : bt l' a
        · rw [hb] at this; exact absurd this (by decide)
        · rfl
      · intro z a ha
        apply zw_tf
        intro hb
        rw [zw_and, zw_not (by omega)] at hb
        rw [z a ((hq.2 a ha).mp hb.1)] at hb
        exact absurd hb.2 (by decide)
    refine ek_if hiff (fun hp => ?_) (fun hp => nm_r (nI_1 i) (k (l', od', ow') (zx_so0 hI (fun hg hl hk => ?_))))
    · obtain ⟨m, hm, rfl, hU⟩ := zx_soa hi hI ((hlv.2 i hi).mp h1) h2 hp
      exact ⟨zw_i6 hm, nm_r (e' := upd ow' m (nI i)) (by rw [zw_c6 hm, zw_nar8 (by omega)]) (nm_r (nI_1 m) (nm_e (nm_r (nI_1 i) (k (_, _, _) hU))))⟩
    · exfalso
      apply hp
      intro a ha
      obtain ⟨m, o, _, _, _, _, _, _, _, _, h9⟩ := hI
      have := zw_klt hg ha
      exact h9 hg a ha.2.1 (Or.inl (by omega))
theorem zx_sort {post : SX → Prop} (hlv : zw_is lv (zw_L nx)) (hfw : ∀ a, a < 6 → zw_is (fw a) (fun b => zw_F nx a b)) (h : ∀ od' ow', zx_Or nx od' ow' → post (kn, lv, od', hc, co, bo, nx, dm, fw, bk, lp, ow', hs, we, il, re)) :
    wpX_sort post (kn, lv, od, hc, co, bo, nx, dm, fw, bk, lp, ow, hs, we, il, re) := by
  refine loop_0 (fun n i (s : Int32 × Int32 × (Nat → Int32)) => wX_sort_9 post kn lv hc n s.1 (nI i) s.2.1 co bo nx dm fw bk lp (s.2.2) hs we il re) (fun i s => zx_so nx i 0 s.1 s.2.1 s.2.2) 6 (0, 0, ow) ?_ ?_ ?_
  · refine ⟨0, fun _ => 0, rfl, zw_S0, fun b hb => ?_, ?_, fun k hk => absurd hk (by omega), fun b hb => ?_, fun j k hj => absurd hj (by omega), fun k a hk => absurd hk (by omega), fun _ b _ hk => by omega⟩
    · rw [b_0] at hb; exact absurd hb (by decide)
    · exact (zw_n0 (fun i _ => by rw [b_0]; decide)).symm
    · rw [b_0] at hb; exact absurd hb (by decide)
  · rintro n ⟨l', od', ow'⟩ hI
    exact br_t zw_66 (h od' ow' (zx_soe hI))
  · rintro n i ⟨l', od', ow'⟩ hi hI k
    refine br_f (zw_6 hi) (zx_so17 hlv hfw hI ?_)
    intro l2 od2 ow2 h2
    rw [nI_1]
    exact k (l2, od2, ow2) h2
end
end
section
/-! listHeads -/
def zx_lh (nx : Nat → Int32) (z i : Nat) (hc : Int32) (hs : Nat → Int32) : Prop :=
  ∃ (c : Nat) (d : Nat → Nat), hc = nI c ∧ c = zw_n (fun h => zw_I nx h h ∧ (zw_z nx h < z ∨ (zw_z nx h = z ∧ h < i))) ∧
  (∀ k, k < c → hs k = nI (d k) ∧ zw_I nx (d k) (d k) ∧ (zw_z nx (d k) < z ∨ (zw_z nx (d k) = z ∧ d k < i))) ∧
  (∀ j k, j ≤ k → k < c → zw_z nx (d j) ≤ zw_z nx (d k)) ∧
  (∀ h, zw_I nx h h → (zw_z nx h < z ∨ (zw_z nx h = z ∧ h < i)) → ∃ k, k < c ∧ d k = h)
theorem zx_lhn {nx hs : Nat → Int32} {z : Nat} {hc : Int32} (h : zx_lh nx z 6 hc hs) : zx_lh nx (z + 1) 0 hc hs := by
  obtain ⟨c, d, h1, h2, h3, h4, h5⟩ := h
  refine ⟨c, d, h1, ?_, fun k hk => ⟨(h3 k hk).1, (h3 k hk).2.1, by have := (h3 k hk).2.2; omega⟩, h4, fun h hi hz => h5 h hi ?_⟩
  · rw [h2]
    exact zw_ne (fun h h6 => ⟨fun y => ⟨y.1, by have := y.2; omega⟩, fun y => ⟨y.1, by have := y.2; omega⟩⟩)
  · have := zw_I6 hi
    omega
theorem zx_lh0 {nx hs : Nat → Int32} {z i : Nat} {hc : Int32} (h : zx_lh nx z i hc hs) (hn : ¬ (zw_I nx i i ∧ zw_z nx i = z)) : zx_lh nx z (i + 1) hc hs := by
  obtain ⟨c, d, h1, h2, h3, h4, h5⟩ := h
  refine ⟨c, d, h1, ?_, fun k hk => ⟨(h3 k hk).1, (h3 k hk).2.1, by have := (h3 k hk).2.2; omega⟩, h4, fun h hi hz => h5 h hi ?_⟩
  · rw [h2]
    refine zw_ne (fun h h6 => ⟨fun y => ⟨y.1, by have := y.2; omega⟩, fun y => ⟨y.1, ?_⟩⟩)
    by_cases hhi : h = i
    · subst hhi
      have := y.2
      have : zw_z nx h ≠ z := fun w => hn ⟨y.1, w⟩
      omega
    · have := y.2; omega
  · by_cases hhi : h = i
    · subst hhi
      have : zw_z nx h ≠ z := fun w => hn ⟨hi, w⟩
      omega
    · omega
theorem zx_lha {nx hs : Nat → Int32} {z i : Nat} {hc : Int32} (hi : i < 6) (h : zx_lh nx z i hc hs) (hI : zw_I nx i i) (hz : zw_z nx i = z) :
    ∃ c, c < 6 ∧ hc = nI c ∧ zx_lh nx z (i + 1) (nI (c + 1)) (upd hs c (nI i)) := by
  obtain ⟨c, d, h1, h2, h3, h4, h5⟩ := h
  have hc1 : zw_n (fun h => zw_I nx h h ∧ (zw_z nx h < z ∨ (zw_z nx h = z ∧ h < i + 1))) = c + 1 := by
    rw [h2]
    refine zw_na hi (fun y => by have := y.2; omega) (fun j _ => ?_)
    constructor
    · intro y
      by_cases hji : j = i
      · exact Or.inr hji
      · exact Or.inl ⟨y.1, by have := y.2; omega⟩
    · rintro (y | rfl)
      · exact ⟨y.1, by have := y.2; omega⟩
      · exact ⟨hI, by omega⟩
  have hc6 : c < 6 := by
    have := zw_n6 (fun h => zw_I nx h h ∧ (zw_z nx h < z ∨ (zw_z nx h = z ∧ h < i + 1)))
    omega
  refine ⟨c, hc6, h1, c + 1, fun k => if k = c then i else d k, rfl, hc1.symm, ?_, ?_, ?_⟩
  · intro k hk
    by_cases hkc : k = c
    · subst hkc
      show upd hs k (nI i) k = nI (if k = k then i else d k) ∧ zw_I nx (if k = k then i else d k) (if k = k then i else d k) ∧ (zw_z nx (if k = k then i else d k) < z ∨ (zw_z nx (if k = k then i else d k) = z ∧ (if k = k then i else d k) < i + 1))
      rw [if_pos rfl, pk_us]
      exact ⟨rfl, hI, by omega⟩
    · show upd hs c (nI i) k = nI (if k = c then i else d k) ∧ zw_I nx (if k = c then i else d k) (if k = c then i else d k) ∧ (zw_z nx (if k = c then i else d k) < z ∨ (zw_z nx (if k = c then i else d k) = z ∧ (if k = c then i else d k) < i + 1))
      rw [if_neg hkc, pk_un hkc]
      have := h3 k (by omega)
      exact ⟨this.1, this.2.1, by have := this.2.2; omega⟩
  · intro j k hjk hk
    show zw_z nx (if j = c then i else d j) ≤ zw_z nx (if k = c then i else d k)
    by_cases hkc : k = c
    · rw [if_pos hkc]
      by_cases hjc : j = c
      · rw [if_pos hjc]; exact Nat.le_refl _
      · rw [if_neg hjc]
        have := (h3 j (by omega)).2.2
        omega
    · rw [if_neg hkc, if_neg (by omega)]
      exact h4 j k hjk (by omega)
  · intro h hh hzz
    by_cases hhi : h = i
    · exact ⟨c, by omega, (if_pos rfl).trans hhi.symm⟩
    · obtain ⟨k, hk, hk2⟩ := h5 h hh (by omega)
      exact ⟨k, by omega, (if_neg (by omega)).trans hk2⟩
def zw_H (nx : Nat → Int32) (c : Nat) (d : Nat → Nat) : Prop :=
  c ≤ 6 ∧ (∀ k, k < c → zw_I nx (d k) (d k)) ∧ (∀ j k, j ≤ k → k < c → zw_z nx (d j) ≤ zw_z nx (d k)) ∧ (∀ h, zw_I nx h h → ∃ k, k < c ∧ d k = h)
def zx_Hd (nx : Nat → Int32) (hc : Int32) (hs : Nat → Int32) : Prop :=
  ∃ (c : Nat) (d : Nat → Nat), hc = nI c ∧ (∀ k, k < c → hs k = nI (d k)) ∧ zw_H nx c d
theorem zx_lhe {nx hs : Nat → Int32} {hc : Int32} (h : zx_lh nx 7 0 hc hs) : zx_Hd nx hc hs := by
  obtain ⟨c, d, h1, h2, h3, h4, h5⟩ := h
  refine ⟨c, d, h1, fun k hk => (h3 k hk).1, ?_, fun k hk => (h3 k hk).2.1, h4, fun h hh => h5 h hh (Or.inl ?_)⟩
  · rw [h2]; exact zw_n6 _
  · have := zw_n6 (zw_I nx h)
    unfold zw_z
    omega
section
variable {kn lv od hc : Int32} {co bo nx dm fw bk lp ow hs we il re : Nat → Int32}
theorem zx_lh15 {post : SX → Prop} {J7 : Int32 → Int32 → (Nat → Int32) → (Nat → Int32) → (Nat → Int32) → (Nat → Int32) → (Nat → Int32) → (Nat → Int32) → (Nat → Int32) → (Nat → Int32) → (Nat → Int32) → (Nat → Int32) → (Nat → Int32) → (Nat → Int32) → Prop} {z : Nat}
    (hz : z < 7) (hlp : ∀ h, h < 6 → zw_is (lp h) (zw_I nx h)) (h0 : zx_lh nx z 0 hc hs) (hJ : ∀ hc' hs', zx_lh nx (z + 1) 0 hc' hs' → J7 (nI z + 1) hc' co bo nx dm fw bk lp ow hs' we il re) :
    ∃ n, wX_listHeads_15 post J7 (nI z) kn lv od n 0 hc co bo nx dm fw bk lp ow hs we il re := by
  refine loop_0 (fun n i (s : Int32 × (Nat → Int32)) => wX_listHeads_15 post J7 (nI z) kn lv od n (nI i) s.1 co bo nx dm fw bk lp ow (s.2) we il re) (fun i s => zx_lh nx z i s.1 s.2) 6 (hc, hs) h0 ?_ ?_
  · rintro n ⟨c', d'⟩ hI
    exact br_t zw_66 (nm_e (hJ c' d' (zx_lhn hI)))
  · rintro n i ⟨c', d'⟩ hi hI k
    dsimp only at hI k ⊢
    refine br_f (zw_6 hi) ⟨zw_i6 hi, ?_⟩
    rw [zw_c6 hi]
    refine br_c (fun h1 => nm_r (nI_1 i) (k (c', d') (zx_lh0 hI (fun y => (zw_isz (hlp i hi)).mp h1 i hi y.1)))) (fun h1 => ⟨zw_i6 hi, ?_⟩)
    refine zx_sizeOf (hlp i hi) ?_
    have hii : zw_I nx i i := by
      obtain ⟨b, hb, hbt⟩ := (zw_nz (hlp i hi).1).mp h1
      exact zw_Ihh (((hlp i hi).2 b hb).mp hbt)
    have hzi : zw_n (zw_I nx i) = zw_z nx i := rfl
    have hz6 := zw_n6 (zw_I nx i)
    refine pk_eq (zw_n (zw_I nx i)) z (fun h2 => ?_) (fun h2 => nm_r (nI_1 i) (k (c', d') (zx_lh0 hI (fun y => h2 (hzi.trans y.2)))))
    obtain ⟨m, hm, rfl, hU⟩ := zx_lha hi hI hii (hzi.symm.trans h2)
    exact ⟨zw_i6 hm, nm_r (e' := upd d' m (nI i)) (by rw [zw_c6 hm, zw_nar8 (by omega)]) (nm_r (nI_1 m) (nm_r (nI_1 i) (k (_, _) hU)))⟩
theorem zx_listHeads {post : SX → Prop} (hlp : ∀ h, h < 6 → zw_is (lp h) (zw_I nx h)) (h : ∀ hc' hs', zx_Hd nx hc' hs' → post (kn, lv, od, hc', co, bo, nx, dm, fw, bk, lp, ow, hs', we, il, re)) :
    wpX_listHeads post (kn, lv, od, hc, co, bo, nx, dm, fw, bk, lp, ow, hs, we, il, re) := by
  refine pk_loop (fun n i (s : Int32 × (Nat → Int32)) => wX_listHeads_7 post kn lv od n (nI i) s.1 co bo nx dm fw bk lp ow (s.2) we il re) (fun i s => zx_lh nx i 0 s.1 s.2) 7 1 (0, hs) (by decide) ?_ ?_ ?_
  · refine ⟨0, fun _ => 0, rfl, ?_, fun k hk => absurd hk (by omega), fun j k _ hk => absurd hk (by omega), fun h hh hz => ?_⟩
    · refine (zw_n0 (fun h h6 y => ?_)).symm
      have : 0 < zw_z nx h := by
        have := zw_ns (P := fun _ => False) (Q := zw_I nx h) (fun _ _ z => z.elim) h6 y.1 (fun z => z)
        unfold zw_z
        omega
      omega
    · have : 0 < zw_z nx h := by
        have := zw_ns (P := fun _ => False) (Q := zw_I nx h) (fun _ _ z => z.elim) (zw_I6 hh) hh (fun z => z)
        unfold zw_z
        omega
      omega
  · rintro n ⟨c', d'⟩ hI
    exact br_t (by decide) (h c' d' (zx_lhe hI))
  · rintro n i ⟨c', d'⟩ hi hI k
    refine br_f (nI_nlt (a := 6) (by omega) (by omega)) (zx_lh15 hi hlp hI ?_)
    intro c2 d2 h2
    rw [nI_1]
    exact k (c2, d2) h2
end
/-! learn -/
def zx_Sh (nx : Nat → Int32) (lv od hc : Int32) (dm fw bk lp ow hs : Nat → Int32) : Prop :=
  zw_is lv (zw_L nx) ∧ (∀ b, b < 6 → zw_is (dm b) (fun h => zw_D nx h b)) ∧ (∀ a, a < 6 → zw_is (fw a) (fun b => zw_F nx a b)) ∧
  (∀ h, h < 6 → zw_is (bk h) (fun a => zw_B nx a h)) ∧ (∀ h, h < 6 → zw_is (lp h) (zw_I nx h)) ∧ zx_Or nx od ow ∧ zx_Hd nx hc hs
section
variable {kn lv od hc : Int32} {co bo nx dm fw bk lp ow hs we il re : Nat → Int32}
theorem zx_learn {post : SX → Prop} (hnx : ∀ a, a < 6 → zw_S (nx a)) (hk : kn = 0 ∨ zx_Sh nx lv od hc dm fw bk lp ow hs)
    (h : ∀ kn lv od hc dm fw bk lp ow hs, ¬ kn = 0 → zx_Sh nx lv od hc dm fw bk lp ow hs → post (kn, lv, od, hc, co, bo, nx, dm, fw, bk, lp, ow, hs, we, il, re)) : wpX_learn post (kn, lv, od, hc, co, bo, nx, dm, fw, bk, lp, ow, hs, we, il, re) := by
  refine br_c (fun h0 => ?_) (fun h0 => h _ _ _ _ _ _ _ _ _ _ h0 (hk.resolve_left h0))
  refine zx_findLive hnx ?_
  intro lv1 hlv
  refine zx_findDominators hlv ?_
  intro dm1 hdm
  refine zx_splitEdges hlv hdm ?_
  intro fw1 bk1 hfw hbk
  refine loop_0 (fun n i s => wX_learn_27 post 1 lv1 od hc n (nI i) co bo nx dm1 fw1 bk1 s ow hs we il re) (fun i s => ∀ h, h < i → zw_is (s h) (zw_I nx h)) 6 lp (fun b hb => absurd hb (by omega)) ?_ ?_
  · intro n s hI
    refine br_t zw_66 (zx_sort hlv hfw ?_)
    intro od1 ow1 hor
    refine zx_listHeads hI ?_
    intro hc1 hs1 hhd
    exact h _ _ _ _ _ _ _ _ _ _ (by decide) ⟨hlv, hdm, hfw, hbk, hI, hor, hhd⟩
  · intro n i s hi hI k
    refine br_f (zw_6 hi) (zx_loopOf hi hnx hlv (hbk i hi) ?_)
    intro r hr
    refine ⟨zw_i6 hi, nm_r (e' := upd s i r) (by rw [zw_c6 hi, zw_nar hr.1]) (nm_r (nI_1 i) (k _ ?_))⟩
    intro j hj
    by_cases hji : j = i
    · subst hji; rw [pk_us]; exact hr
    · rw [pk_un hji]; exact hI j (by omega)
theorem zx_isRegular {post : Int32 → SX → Prop} (hnx : ∀ a, a < 6 → zw_S (nx a)) (hk : kn = 0 ∨ zx_Sh nx lv od hc dm fw bk lp ow hs)
    (h1 : ∀ kn lv od hc dm fw bk lp ow hs, ¬ kn = 0 → ¬ zw_G nx → zx_Sh nx lv od hc dm fw bk lp ow hs → post 1 (kn, lv, od, hc, co, bo, nx, dm, fw, bk, lp, ow, hs, we, il, re))
    (h0 : ∀ kn lv od hc dm fw bk lp ow hs, ¬ kn = 0 → zw_G nx → zx_Sh nx lv od hc dm fw bk lp ow hs → post 0 (kn, lv, od, hc, co, bo, nx, dm, fw, bk, lp, ow, hs, we, il, re)) : wpX_isRegular post (kn, lv, od, hc, co, bo, nx, dm, fw, bk, lp, ow, hs, we, il, re) := by
  unfold wpX_isRegular
  refine zx_learn hnx hk ?_
  intro kn lv od hc dm fw bk lp ow hs hkn hSh
  refine zx_sizeOf hSh.1 ?_
  obtain ⟨m, o, hm, hm6, _, hiff, _⟩ := hSh.2.2.2.2.2.1
  have := zw_n6 (zw_L nx)
  refine ek_if (d := ¬ zw_G nx) ?_ (fun hg => h1 _ _ _ _ _ _ _ _ _ _ hkn hg hSh) (fun hg => h0 _ _ _ _ _ _ _ _ _ _ hkn (Classical.not_not.mp hg) hSh)
  rw [hm, nI_eq (by omega) (by omega)]
  exact hiff
end
end
section
/-! the reference: reached, dominators, over -/
section
variable {pr mo nx ov wy be : Nat → Int32}
theorem zy_blk {n : Nat} (hn : n < 6) {post : Int32 → Prop} (h1 : post 1) : wpY_block post (pr, mo, nx, ov, wy, be) (nI n) :=
  br_f (nI_pos (by omega)) (br_f (zw_6 hn) h1)
theorem zy_nblk {p : Int32} (hp : p < 0 ∨ (6 : Int32) ≤ p) {post : Int32 → Prop} (h0 : post 0) : wpY_block post (pr, mo, nx, ov, wy, be) p := by
  by_cases h : p < 0
  · exact br_t h h0
  · exact br_f h (br_t (hp.resolve_left h) h0)
theorem zy_re19 {post : Int32 → Prop} {J9 : Int32 → Int32 → Prop} {p x4 s0 : Int32} {h r : Nat} (hnx : ∀ a, a < 6 → zw_S (nx a)) (hp : ∀ b, b < 6 → bt p b = decide (b = h)) (hS : zw_S s0)
    (h1 : ∀ b, zw_R nx h r b → bt s0 b = true) (h2 : ∀ b, bt s0 b = true → zw_A nx h b)
    (hJ : ∀ s, zw_S s → (∀ b, zw_R nx h (r + 1) b → bt s b = true) → (∀ b, bt s b = true → zw_A nx h b) → J9 s (x4 + 1)) :
    ∃ n, wY_reached_19 post J9 p x4 pr mo nx ov wy be n s0 0 := by
  refine loop_0 (fun n i s => wY_reached_19 post J9 p x4 pr mo nx ov wy be n s (nI i))
    (fun i s => zw_S s ∧ (∀ b, bt s0 b = true → bt s b = true) ∧ (∀ b, bt s b = true → zw_A nx h b) ∧ ∀ a, a < i → bt s0 a = true → ∀ b, b < 6 → b ≠ h → bt (nx a) b = true → bt s b = true) 6 s0
    ⟨hS, fun _ z => z, h2, fun a ha => absurd ha (by omega)⟩ ?_ ?_
  · intro n s hI
    refine br_t zw_66 (nm_e (hJ s hI.1 ?_ hI.2.2.1))
    intro b hb
    rcases hb with hb | ⟨hbh, a, ha, he⟩
    · exact hI.2.1 b (h1 b hb)
    · exact hI.2.2.2 a he.1 (h1 a ha) b he.2.1 hbh he.2.2
  · intro n i s hi hI k
    have hm : ∀ b, bt (nx i &&& (p ^^^ (-1))) b = true ↔ b < 6 ∧ bt (nx i) b = true ∧ b ≠ h := by
      intro b
      constructor
      · intro z
        have h1 := (zw_and.mp z).1
        have hb := zw_mem (hnx i hi) h1
        have h2 := (zw_and.mp z).2
        rw [zw_not (by omega), hp b hb] at h2
        refine ⟨hb, h1, ?_⟩
        intro hbh
        rw [decide_eq_true hbh] at h2
        exact absurd h2 (by decide)
      · rintro ⟨hb, h1, h2⟩
        refine zw_and.mpr ⟨h1, ?_⟩
        rw [zw_not (by omega), hp b hb, decide_eq_false h2]
        rfl
    refine br_f (zw_6 hi) (ek_if (zw_in1 (by omega)) (fun hb => ⟨zw_i6 hi, ?_⟩) (fun hb => nm_r (nI_1 i) (k s ⟨hI.1, hI.2.1, hI.2.2.1, ?_⟩)))
    · rw [zw_c6 hi]
      refine nm_e (nm_r (nI_1 i) (k _ ⟨zw_Sor hI.1 (zw_Sand (hnx i hi)), fun b z => zw_or.mpr (Or.inl (hI.2.1 b z)), ?_, ?_⟩))
      · intro b z
        rcases zw_or.mp z with z | z
        · exact hI.2.2.1 b z
        · have := (hm b).mp z
          exact zw_As (hI.2.2.1 i hb) ⟨hi, this.1, this.2.1⟩ this.2.2
      · intro a ha hla b hb6 hbh hab
        by_cases hai : a = i
        · subst hai
          exact zw_or.mpr (Or.inr ((hm b).mpr ⟨hb6, hab, hbh⟩))
        · exact zw_or.mpr (Or.inl (hI.2.2.2 a (by omega) hla b hb6 hbh hab))
    · intro a ha hla b hb6 hbh hab
      by_cases hai : a = i
      · subst hai
        exact absurd (hI.2.1 a hla) hb
      · exact hI.2.2.2 a (by omega) hla b hb6 hbh hab
theorem zy_reached {post : Int32 → Prop} {p : Int32} {h : Nat} (hnx : ∀ a, a < 6 → zw_S (nx a)) (hp : ∀ b, b < 6 → bt p b = decide (b = h))
    (hr : ∀ r, zw_is r (zw_A nx h) → post r) : wpY_reached post (pr, mo, nx, ov, wy, be) 1 p := by
  refine nm_e ?_
  refine loop_0 (fun n i s => wY_reached_9 post p pr mo nx ov wy be n s (nI i)) (fun i s => zw_S s ∧ (∀ b, zw_R nx h i b → bt s b = true) ∧ (∀ b, bt s b = true → zw_A nx h b)) 6 _ ⟨zw_Sand zw_S1, ?_, ?_⟩ ?_ ?_
  · rintro b ⟨rfl, hb⟩
    refine zw_and.mpr ⟨by decide, ?_⟩
    rw [zw_not (by decide), hp 0 (by decide), decide_eq_false hb]
    rfl
  · intro b z
    have h1 := (zw_and.mp z).1
    have h2 := (zw_and.mp z).2
    rw [zw_b1, decide_eq_true_eq] at h1
    subst h1
    rw [zw_not (by decide), hp 0 (by decide)] at h2
    refine ⟨0, rfl, ?_⟩
    intro hbh
    rw [decide_eq_true hbh] at h2
    exact absurd h2 (by decide)
  · intro n s hI
    exact br_t zw_66 (hr s ⟨hI.1, fun b _ => ⟨hI.2.2 b, fun ⟨n, hn⟩ => hI.2.1 b (zw_Rs hn)⟩⟩)
  · intro n i s hi hI k
    refine br_f (zw_6 hi) (zy_re19 hnx hp hI.1 hI.2.1 hI.2.2 ?_)
    intro s' a b c
    rw [nI_1]
    exact k s' ⟨a, b, c⟩
theorem zy_live {post : Int32 → Prop} (hnx : ∀ a, a < 6 → zw_S (nx a)) (hr : ∀ r, zw_is r (zw_L nx) → post r) : wpY_live post (pr, mo, nx, ov, wy, be) :=
  zy_reached (h := 6) hnx (fun b hb => by rw [b_0, decide_eq_false (by omega)]) hr
theorem zy_dominators {post : Int32 → Prop} {j : Nat} (hj : j < 6) (hnx : ∀ a, a < 6 → zw_S (nx a)) (hr : ∀ r, zw_is r (fun h => zw_D nx h j) → post r) :
    wpY_dominators post (pr, mo, nx, ov, wy, be) (nI j) := by
  refine zy_live hnx ?_
  intro l hl
  refine loop_0 (fun n i s => wY_dominators_10 post (nI j) l pr mo nx ov wy be n s (nI i)) (fun i s => zw_is s (fun h => h < i ∧ zw_D nx h j)) 6 0 (zw_is0 (fun _ _ z => by omega)) ?_ ?_
  · intro n s hI
    exact br_t zw_66 (hr s (zw_isc hI (fun h hh => ⟨fun z => z.2, fun z => ⟨hh, z⟩⟩)))
  · intro n i s hi hI k
    have no : ¬ zw_D nx i j → wY_dominators_64 post (wY_dominators_10 post (nI j) l pr mo nx ov wy be n) (nI j) l s (nI i) pr mo nx ov wy be := by
      intro hn
      refine br_t rfl (nm_r (nI_1 i) (k s (zw_isc hI (fun h _ => ?_))))
      constructor
      · rintro ⟨h1, h2⟩; exact ⟨by omega, h2⟩
      · rintro ⟨h1, h2⟩
        have : h ≠ i := fun z => hn (z ▸ h2)
        exact ⟨by omega, h2⟩
    refine br_f (zw_6 hi) (zy_blk hj (br_f (by decide) (ek_if (zw_in1 (by omega)) (fun h1 => ek_if (zw_in1 (by omega)) (fun h2 => ?_) (fun h2 => no (fun z => h2 ((hl.2 i hi).mpr z.2.1)))) (fun h1 => no (fun z => h1 ((hl.2 j hj).mpr z.1))))))
    refine zy_reached (h := i) hnx (fun b _ => zw_one' (by omega) b) ?_
    intro q hq
    refine ek_if (zw_in (by omega)) (fun h3 => ?_) (fun h3 => no (fun z => h3 ((zw_isf hq hj).mpr z.2.2)))
    have hd : zw_D nx i j := ⟨(hl.2 j hj).mp h1, (hl.2 i hi).mp h2, (zw_isf hq hj).mp h3⟩
    refine br_f (by decide) (nm_e (nm_r (nI_1 i) (k _ (zw_isc (zw_isa hI hi) (fun h _ => ?_)))))
    constructor
    · rintro (⟨h1, h2⟩ | rfl)
      · exact ⟨by omega, h2⟩
      · exact ⟨by omega, hd⟩
    · rintro ⟨h1, h2⟩
      by_cases hhi : h = i
      · exact Or.inr hhi
      · exact Or.inl ⟨by omega, h2⟩
theorem zy_ndominators {post : Int32 → Prop} {p : Int32} (hp : p < 0 ∨ (6 : Int32) ≤ p) (hnx : ∀ a, a < 6 → zw_S (nx a)) (h0 : post 0) : wpY_dominators post (pr, mo, nx, ov, wy, be) p := by
  refine zy_live hnx ?_
  intro l hl
  exact ⟨1, br_f (by decide) (zy_nblk hp (br_t rfl h0))⟩
theorem zy_findOver {post : SY → Prop} (hnx : ∀ a, a < 6 → zw_S (nx a)) (h : ∀ ov', (∀ b, b < 6 → zw_is (ov' b) (fun h => zw_D nx h b)) → post (pr, mo, nx, ov', wy, be)) : wpY_findOver post (pr, mo, nx, ov, wy, be) := by
  refine loop_0 (fun n i s => wY_findOver_2 post n (nI i) pr mo nx s wy be) (fun i s => ∀ b, b < i → zw_is (s b) (fun h => zw_D nx h b)) 6 ov (fun b hb => absurd hb (by omega)) ?_ ?_
  · intro n s hI
    exact br_t zw_66 (h s hI)
  · intro n i s hi hI k
    refine br_f (zw_6 hi) (zy_dominators hi hnx ?_)
    intro r hr
    refine ⟨zw_i6 hi, nm_r (e' := upd s i r) (by rw [zw_c6 hi]) (nm_r (nI_1 i) (k _ ?_))⟩
    intro j hj
    by_cases hji : j = i
    · subst hji; rw [pk_us]; exact hr
    · rw [pk_un hji]; exact hI j (by omega)
/-! edges -/
theorem zy_ov {a : Nat} (ha : a < 6) (hov : zw_is (ov a) (fun h => zw_D nx h a)) : ov a = 0 ↔ ¬ zw_L nx a := by
  rw [zw_isz hov]
  exact ⟨fun z hl => z a ha (zw_Ds hl), fun z h _ hd => z hd.1⟩
theorem zy_edge {post : Int32 → Prop} {a b : Nat} (ha : a < 6) (hb : b < 6) (hov : ∀ b, b < 6 → zw_is (ov b) (fun h => zw_D nx h b))
    (h1 : zw_E nx a b → zw_L nx a → post 1) (h0 : ¬ (zw_E nx a b ∧ zw_L nx a) → post 0) : wpY_edge post (pr, mo, nx, ov, wy, be) (nI a) (nI b) := by
  refine ⟨zw_i6 ha, ?_⟩
  rw [zw_c6 ha]
  refine ek_if (zw_in1 (by omega)) (fun he => ⟨zw_i6 ha, ek_if (zy_ov ha (hov a ha)) (fun hl => h0 (fun z => hl z.2)) (fun hl => h1 ⟨ha, hb, he⟩ (Classical.not_not.mp hl))⟩) (fun he => h0 (fun z => he z.1.2.2))
theorem zy_backEdge {post : Int32 → Prop} {a b : Nat} (ha : a < 6) (hb : b < 6) (hov : ∀ b, b < 6 → zw_is (ov b) (fun h => zw_D nx h b))
    (h1 : zw_B nx a b → post 1) (h0 : ¬ zw_B nx a b → post 0) : wpY_backEdge post (pr, mo, nx, ov, wy, be) (nI a) (nI b) := by
  unfold wpY_backEdge
  refine zy_edge ha hb hov (fun he hl => br_f (by decide) ⟨zw_i6 ha, ?_⟩) (fun z => br_t rfl (h0 (fun y => z ⟨y.1, y.2.1⟩)))
  rw [zw_c6 ha]
  exact ek_if (zw_in1 (by omega)) (fun hd => h1 ⟨he, hl, ((hov a ha).2 b hb).mp hd⟩) (fun hd => h0 (fun y => hd (((hov a ha).2 b hb).mpr y.2.2)))
/-! regular -/
theorem zy_onward {post : Int32 → Prop} {x : Int32} (hov : ∀ b, b < 6 → zw_is (ov b) (fun h => zw_D nx h b))
    (hr : ∀ r, zw_is r (fun b => ∃ a, bt x a = true ∧ zw_F nx a b) → post r) : wpY_onward post (pr, mo, nx, ov, wy, be) x := by
  refine loop_0 (fun n i s => wY_onward_4 post x pr mo nx ov wy be n s (nI i)) (fun i s => zw_is s (fun b => ∃ a, 6 * a + b < i ∧ bt x a = true ∧ zw_F nx a b)) 36 0 (zw_is0 (fun _ _ ⟨a, z, _⟩ => by omega)) ?_ ?_
  · intro n s hI
    refine br_t (by decide) (hr s (zw_isc hI (fun b hb => ⟨fun ⟨a, _, h2⟩ => ⟨a, h2⟩, fun ⟨a, h2⟩ => ⟨a, ?_, h2⟩⟩)))
    have := h2.2.1.1
    omega
  · intro n i s hi hI k
    have e1 : nI i / 6 = nI (i / 6) := pk_div (d := 6) (by omega) (by decide) (by decide)
    have e2 : nI i - nI i / 6 * 6 = nI (i % 6) := pk_rem (d := 6) (by omega) (by decide) (by decide)
    have ha : i / 6 < 6 := by omega
    have hb : i % 6 < 6 := by omega
    have no : ¬ (bt x (i / 6) = true ∧ zw_F nx (i / 6) (i % 6)) → wY_onward_56 post (wY_onward_4 post x pr mo nx ov wy be n) x s (nI i) pr mo nx ov wy be := by
      intro hn
      refine br_t rfl (nm_r (nI_1 i) (k s (zw_isc hI (fun b hb6 => ?_))))
      constructor
      · rintro ⟨a, h1, h2⟩; exact ⟨a, by omega, h2⟩
      · rintro ⟨a, h1, h2⟩
        refine ⟨a, ?_, h2⟩
        have hne : ¬ (6 * a + b = i) := by
          intro z
          apply hn
          rw [show i / 6 = a by omega, show i % 6 = b by omega]
          exact h2
        omega
    refine br_f (nI_ge (b := 36) hi (by decide)) ⟨by decide, ?_⟩
    rw [e2, e1]
    refine ek_if (zw_in1 (by omega)) (fun hx => ⟨by decide, by decide, ?_⟩) (fun hx => no (fun z => hx z.1))
    refine zy_edge ha hb hov (fun he hl => br_f (by decide) ⟨by decide, by decide, ?_⟩) (fun z => br_t rfl (no (fun y => z ⟨y.2.1, y.2.2.1⟩)))
    refine zy_backEdge ha hb hov (fun hB => br_f (by decide) (no (fun y => y.2.2.2 hB.2.2))) (fun hB => br_t rfl ?_)
    have hF : zw_F nx (i / 6) (i % 6) := ⟨he, hl, fun hd => hB ⟨he, hl, hd⟩⟩
    refine br_f (by decide) ⟨by decide, nm_r (e' := s ||| ((1 : Int32) <<< (nI (i % 6) &&& 31))) (by rw [e2]) (nm_r (nI_1 i) (k _ (zw_isc (zw_isa hI hb) (fun b hb6 => ?_))))⟩
    constructor
    · rintro (⟨a, h1, h2⟩ | rfl)
      · exact ⟨a, by omega, h2⟩
      · exact ⟨i / 6, by omega, hx, hF⟩
    · rintro ⟨a, h1, h2⟩
      by_cases hne : 6 * a + b = i
      · exact Or.inr (by omega)
      · exact Or.inl ⟨a, by omega, h2⟩
theorem zy_rg25 {post : Int32 → SY → Prop} {J8 : Int32 → Int32 → Prop} {x1 s0 : Int32} {b : Nat} (hb : b < 6) (hov : ∀ b, b < 6 → zw_is (ov b) (fun h => zw_D nx h b))
    (h0 : zw_is s0 (fun c => zw_F nx b c)) (h1 : x1 = 0 ∨ x1 = 1) (hy : (¬ x1 = 0 ∨ zw_T nx b 6 b) → J8 1 (nI (b + 1))) (hn : x1 = 0 → ¬ zw_T nx b 6 b → J8 0 (nI (b + 1))) :
    ∃ n, wY_regular_25 post J8 x1 (nI b) pr mo nx ov wy be n s0 0 := by
  refine loop_0 (fun n i s => wY_regular_25 post J8 x1 (nI b) pr mo nx ov wy be n s (nI i)) (fun i s => zw_S s ∧ (∀ c, zw_T nx b i c → bt s c = true) ∧ (∀ c, bt s c = true → ∃ n, zw_T nx b n c)) 6 s0 ⟨h0.1, ?_, ?_⟩ ?_ ?_
  · intro c hc
    exact (h0.2 c hc.1.2.1).mpr hc
  · intro c hc
    exact ⟨0, zw_isl h0 hc⟩
  · intro n s hI
    refine br_t zw_66 (br_c (fun z => ?_) (fun z => nm_r (nI_1 b) (hy (Or.inl z))))
    refine ek_if (zw_in1 (by omega)) (fun h2 => nm_r (nI_1 b) (hy (Or.inr ?_))) (fun h2 => nm_r (nI_1 b) (hn z (fun w => h2 (hI.2.1 b w))))
    obtain ⟨n, hn⟩ := hI.2.2 b h2
    exact zw_Ts hn
  · intro n i s hi hI k
    refine br_f (zw_6 hi) (zy_onward hov ?_)
    intro r hr
    refine nm_e (nm_r (nI_1 i) (k _ ⟨zw_Sor hI.1 hr.1, ?_, ?_⟩))
    · intro c hc
      rcases hc with hc | ⟨a, ha, hf⟩
      · exact zw_or.mpr (Or.inl (hI.2.1 c hc))
      · exact zw_or.mpr (Or.inr ((hr.2 c hf.1.2.1).mpr ⟨a, hI.2.1 a ha, hf⟩))
    · intro c hc
      rcases zw_or.mp hc with hc | hc
      · exact hI.2.2 c hc
      · obtain ⟨a, ha, hf⟩ := zw_isl hr hc
        obtain ⟨n, hn⟩ := hI.2.2 a ha
        exact ⟨n + 1, Or.inr ⟨a, hn, hf⟩⟩
theorem zy_regular {post : Int32 → SY → Prop} (hnx : ∀ a, a < 6 → zw_S (nx a))
    (h1 : ∀ ov', (∀ b, b < 6 → zw_is (ov' b) (fun h => zw_D nx h b)) → ¬ zw_G nx → post 1 (pr, mo, nx, ov', wy, be))
    (h0 : ∀ ov', (∀ b, b < 6 → zw_is (ov' b) (fun h => zw_D nx h b)) → zw_G nx → post 0 (pr, mo, nx, ov', wy, be)) : wpY_regular post (pr, mo, nx, ov, wy, be) := by
  refine zy_findOver hnx ?_
  intro ov hov
  refine loop_0 (fun n i s => wY_regular_8 post pr mo nx ov wy be n s (nI i)) (fun i s => (s = 0 ∧ ∀ b, b < i → ¬ zw_T nx b 6 b) ∨ (s = 1 ∧ zw_G nx)) 6 0 (Or.inl ⟨rfl, fun b hb => absurd hb (by omega)⟩) ?_ ?_
  · intro n s hI
    refine br_t zw_66 ?_
    rcases hI with ⟨rfl, hI⟩ | ⟨rfl, hI⟩
    · refine br_t rfl (h1 ov hov ?_)
      rintro ⟨b, n, hn⟩
      exact hI b (zw_T6 n b hn).1 (zw_Ts hn)
    · exact br_f (by decide) (h0 ov hov hI)
  · intro n i s hi hI k
    refine br_f (zw_6 hi) (zy_onward hov ?_)
    intro r hr
    have hr' : zw_is r (fun c => zw_F nx i c) := zw_isc hr (fun c _ => ⟨fun ⟨a, ha, hf⟩ => by rw [zw_one' (by omega), decide_eq_true_eq] at ha; exact ha ▸ hf, fun hf => ⟨i, by rw [zw_one' (by omega), decide_eq_true_eq], hf⟩⟩)
    refine zy_rg25 hi hov hr' (hI.elim (fun z => Or.inl z.1) (fun z => Or.inr z.1)) (fun z => k 1 (Or.inr ⟨rfl, ?_⟩)) (fun z w => k 0 (Or.inl ⟨rfl, ?_⟩))
    · rcases z with z | z
      · rcases hI with ⟨hI, _⟩ | ⟨_, hI⟩
        · exact absurd hI z
        · exact hI
      · exact ⟨i, 6, z⟩
    · rcases hI with ⟨_, hI⟩ | ⟨hI, _⟩
      · intro b hb
        by_cases hbi : b = i
        · subst hbi; exact w
        · exact hI b (by omega)
      · rw [z] at hI; exact absurd hI (by decide)
/-! loop -/
theorem zy_lo62 {post : Int32 → SY → Prop} {J53 : Int32 → Int32 → Prop} {x3 : Int32} {h r : Nat} {s0 : Int32} (hh : h < 6) (hnx : ∀ a, a < 6 → zw_S (nx a)) (hov : ∀ b, b < 6 → zw_is (ov b) (fun h => zw_D nx h b)) (hS : zw_S s0)
    (h1 : ∀ b, zw_P nx h r b → bt s0 b = true) (hz : zw_P nx h 0 h → bt s0 h = true) (h2 : ∀ b, bt s0 b = true → zw_I nx h b)
    (hJ : ∀ s, zw_S s → (∀ b, zw_P nx h (r + 1) b → bt s b = true) → (zw_P nx h 0 h → bt s h = true) → (∀ b, bt s b = true → zw_I nx h b) → J53 s (x3 + 1)) :
    ∃ n, wY_loop_62 post J53 (nI h) x3 pr mo nx ov wy be n s0 0 := by
  refine loop_0 (fun n i s => wY_loop_62 post J53 (nI h) x3 pr mo nx ov wy be n s (nI i))
    (fun i s => zw_S s ∧ (∀ b, bt s0 b = true → bt s b = true) ∧ (∀ b, bt s b = true → zw_I nx h b) ∧ ∀ a, a < i → zw_L nx a → (∃ c, zw_E nx a c ∧ c ≠ h ∧ bt s0 c = true) → bt s a = true) 6 s0
    ⟨hS, fun _ z => z, h2, fun a ha => absurd ha (by omega)⟩ ?_ ?_
  · intro n s hI
    refine br_t zw_66 (nm_e (hJ s hI.1 ?_ (fun z => hI.2.1 h (hz z)) hI.2.2.1))
    intro b hb
    rcases hb with hb | ⟨hl, c, he, hc, hp⟩
    · exact hI.2.1 b (h1 b hb)
    · exact hI.2.2.2 b he.1 hl ⟨c, he, hc, h1 c hp⟩
  · intro n i s hi hI k
    have keep : (zw_L nx i → (∃ c, zw_E nx i c ∧ c ≠ h ∧ bt s c = true) → bt s i = true) → wY_loop_110 post J53 (wY_loop_62 post J53 (nI h) x3 pr mo nx ov wy be n) (nI h) s x3 (nI i) pr mo nx ov wy be := by
      intro hno
      refine br_t rfl (nm_r (nI_1 i) (k s ⟨hI.1, hI.2.1, hI.2.2.1, ?_⟩))
      intro a ha hl hc
      by_cases hai : a = i
      · subst hai
        obtain ⟨c, he, hc, hs⟩ := hc
        exact hno hl ⟨c, he, hc, hI.2.1 c hs⟩
      · exact hI.2.2.2 a (by omega) hl hc
    have e7 : nI h &&& 7 = nI h := by
      rcases zw_6c hh with rfl | rfl | rfl | rfl | rfl | rfl <;> decide
    refine br_f (zw_6 hi) ⟨zw_i6 hi, ?_⟩
    rw [zw_c6 hi, e7]
    refine ek_if (zy_ov hi (hov i hi)) (fun hl => keep (fun z => absurd z hl)) (fun hl => ?_)
    refine pk_eq i h (fun hih => keep (fun _ ⟨c, _, _, hs⟩ => ?_)) (fun hih => ⟨zw_i6 hi, ?_⟩)
    · rw [hih]
      obtain ⟨a, ha⟩ := zw_Ie (hI.2.2.1 c hs)
      exact hI.2.1 h (hz (Or.inl ⟨rfl, a, ha⟩))
    · refine ek_if (zx_lo hh hi (hnx i hi)) (fun hn => keep (fun _ z => absurd z hn)) (fun hn => br_f (by decide) (nm_e (nm_r (nI_1 i) (k _ ⟨zw_Sor hI.1 (zw_Sone hi), fun b z => (zw_add (by omega)).mpr (Or.inl (hI.2.1 b z)), ?_, ?_⟩))))
      · intro b z
        rcases (zw_add (by omega)).mp z with z | z
        · exact hI.2.2.1 b z
        · obtain ⟨c, he, hc, hs⟩ := Classical.not_not.mp hn
          rw [z]
          exact zw_Is he (Classical.not_not.mp hl) (hI.2.2.1 c hs) hc
      · intro a ha hl hc
        by_cases hai : a = i
        · exact (zw_add (by omega)).mpr (Or.inr hai)
        · exact (zw_add (by omega)).mpr (Or.inl (hI.2.2.2 a (by omega) hl hc))
theorem zy_lo53 {post : Int32 → SY → Prop} {h : Nat} {s0 : Int32} (hh : h < 6) (hnx : ∀ a, a < 6 → zw_S (nx a)) (hov : ∀ b, b < 6 → zw_is (ov b) (fun h => zw_D nx h b)) (h0 : zw_is s0 (zw_P nx h 0))
    (hp : ∀ r, zw_is r (zw_I nx h) → post r (pr, mo, nx, ov, wy, be)) : ∃ n, wY_loop_53 post (nI h) pr mo nx ov wy be n s0 0 := by
  refine loop_0 (fun n i s => wY_loop_53 post (nI h) pr mo nx ov wy be n s (nI i)) (fun i s => zw_S s ∧ (∀ b, zw_P nx h i b → bt s b = true) ∧ (zw_P nx h 0 h → bt s h = true) ∧ (∀ b, bt s b = true → zw_I nx h b)) 6 s0 ⟨h0.1, ?_, ?_, ?_⟩ ?_ ?_
  · intro b hb
    exact (h0.2 b (zw_P6 0 b hb)).mpr hb
  · intro hb
    exact (h0.2 h hh).mpr hb
  · intro b hb
    exact ⟨0, zw_isl h0 hb⟩
  · intro n s hI
    exact br_t zw_66 (hp s ⟨hI.1, fun b _ => ⟨hI.2.2.2 b, fun ⟨n, hn⟩ => hI.2.1 b (zw_Ps hn)⟩⟩)
  · intro n i s hi hI k
    refine br_f (zw_6 hi) (zy_lo62 hh hnx hov hI.1 hI.2.1 hI.2.2.1 hI.2.2.2 ?_)
    intro s' a b c d
    rw [nI_1]
    exact k s' ⟨a, b, c, d⟩
theorem zy_loop {post : Int32 → SY → Prop} {h : Nat} (hh : h < 6) (hnx : ∀ a, a < 6 → zw_S (nx a)) (hp : ∀ ov' r, zw_is r (zw_I nx h) → post r (pr, mo, nx, ov', wy, be)) : wpY_loop post (pr, mo, nx, ov, wy, be) (nI h) := by
  refine zy_findOver hnx ?_
  intro ov hov
  refine loop_0 (fun n i s => wY_loop_8 post (nI h) pr mo nx ov wy be n s (nI i)) (fun i s => zw_is s (fun b => (b = h ∧ ∃ a, a < i ∧ zw_B nx a h) ∨ (b < i ∧ zw_B nx b h))) 6 0 (zw_is0 (fun b _ z => ?_)) ?_ ?_
  · rcases z with ⟨_, a, ha, _⟩ | ⟨z, _⟩ <;> omega
  · intro n s hI
    refine br_t zw_66 (zy_lo53 hh hnx hov (zw_isc hI (fun b hb => ?_)) (hp ov))
    constructor
    · rintro (⟨h1, a, _, h2⟩ | ⟨_, h2⟩)
      · exact Or.inl ⟨h1, a, h2⟩
      · exact Or.inr h2
    · rintro (⟨h1, a, h2⟩ | h2)
      · exact Or.inl ⟨h1, a, h2.1.1, h2⟩
      · exact Or.inr ⟨hb, h2⟩
  · intro n i s hi hI k
    refine br_f (zw_6 hi) (zy_blk hh (br_f (by decide) ?_))
    refine zy_backEdge hi hh hov (fun hB => br_f (by decide) (nm_e (nm_r (nI_1 i) (k _ (zw_isc (zw_isa (zw_isa hI hi) hh) (fun b _ => ?_)))))) (fun hB => br_t rfl (nm_r (nI_1 i) (k _ (zw_isc hI (fun b _ => ?_)))))
    · constructor
      · rintro (((⟨h1, a, h2, h3⟩ | ⟨h2, h3⟩) | rfl) | rfl)
        · exact Or.inl ⟨h1, a, by omega, h3⟩
        · exact Or.inr ⟨by omega, h3⟩
        · exact Or.inr ⟨by omega, hB⟩
        · exact Or.inl ⟨rfl, i, by omega, hB⟩
      · rintro (⟨h1, a, h2, h3⟩ | ⟨h2, h3⟩)
        · exact Or.inr h1
        · by_cases hbi : b = i
          · exact Or.inl (Or.inr hbi)
          · exact Or.inl (Or.inl (Or.inr ⟨by omega, h3⟩))
    · constructor
      · rintro (⟨h1, a, h2, h3⟩ | ⟨h2, h3⟩)
        · exact Or.inl ⟨h1, a, by omega, h3⟩
        · exact Or.inr ⟨by omega, h3⟩
      · rintro (⟨h1, a, h2, h3⟩ | ⟨h2, h3⟩)
        · have : a ≠ i := fun z => hB (z ▸ h3)
          exact Or.inl ⟨h1, a, by omega, h3⟩
        · have : b ≠ i := fun z => hB (z ▸ h3)
          exact Or.inr ⟨by omega, h3⟩
theorem zy_nloop {post : Int32 → SY → Prop} {p : Int32} (hpb : p < 0 ∨ (6 : Int32) ≤ p) (hnx : ∀ a, a < 6 → zw_S (nx a)) (hp : ∀ ov', post 0 (pr, mo, nx, ov', wy, be)) : wpY_loop post (pr, mo, nx, ov, wy, be) p := by
  refine zy_findOver hnx ?_
  intro ov hov
  refine ⟨1, br_f (by decide) (zy_nblk hpb (br_t rfl ?_))⟩
  refine loop_0 (fun n i (s : Unit) => wY_loop_53 post p pr mo nx ov wy be n 0 (nI i)) (fun _ _ => True) 6 () trivial ?_ ?_
  · intro n s _
    exact br_t zw_66 (hp ov)
  · intro n i s hi _ k
    refine br_f (zw_6 hi) ?_
    refine loop_0 (fun m j (s : Unit) => wY_loop_62 post (wY_loop_53 post p pr mo nx ov wy be n) p (nI i) pr mo nx ov wy be m 0 (nI j)) (fun _ _ => True) 6 () trivial ?_ ?_
    · intro m s _
      exact br_t zw_66 (nm_r (nI_1 i) (k () trivial))
    · intro m j s hj _ k2
      have no : wY_loop_110 post (wY_loop_53 post p pr mo nx ov wy be n) (wY_loop_62 post (wY_loop_53 post p pr mo nx ov wy be n) p (nI i) pr mo nx ov wy be m) p 0 (nI i) (nI j) pr mo nx ov wy be :=
        br_t rfl (nm_r (nI_1 j) (k2 () trivial))
      have e0 : (nx (nI j).toNatClampNeg &&& (0 : Int32)) &&& (((1 : Int32) <<< ((p &&& 7) &&& 31)) ^^^ (-1)) = 0 := by
        rw [Int32.and_zero, Int32.zero_and]
      exact br_f (zw_6 hj) ⟨zw_i6 hj, br_c (fun _ => no) (fun _ => br_c (fun _ => no) (fun _ => ⟨zw_i6 hj, br_t e0 no⟩))⟩
end
end
section
/-! comparisons either way -/
def zy_le (x : Int32) (a b : Int) : Prop := (x = 0 → b ≤ a) ∧ (¬ x = 0 → a ≤ b)
theorem zy_ler (x : Int32) (a : Int) : zy_le x a a := ⟨fun _ => Int.le_refl a, fun _ => Int.le_refl a⟩
theorem zy_let {x : Int32} {a b c : Int} (h1 : zy_le x a b) (h2 : zy_le x b c) : zy_le x a c :=
  ⟨fun z => Int.le_trans (h2.1 z) (h1.1 z), fun z => Int.le_trans (h1.2 z) (h2.2 z)⟩
theorem zy_lea {x : Int32} {a b : Int} (c : Int) (h : zy_le x a b) : zy_le x (a + c) (b + c) :=
  ⟨fun z => by have := h.1 z; omega, fun z => by have := h.2 z; omega⟩
theorem zy_lee {x : Int32} {a b : Int} (h1 : zy_le x a b) (h2 : zy_le x b a) : a = b := by
  by_cases hx : x = 0
  · have := h1.1 hx; have := h2.1 hx; omega
  · have := h1.2 hx; have := h2.2 hx; omega
/-! the greatest or least walk: what both sides find -/
def zw_opt (nx bo : Nat → Int32) (wt : Nat → Int) (x : Int32) (sel : Nat → Prop) (v : Int32) : Prop :=
  (v.toInt = -1 ∧ ∀ n s g, zw_W nx bo wt (fun _ => True) n 0 s g → ¬ sel s) ∨
  ((∃ n s g, zw_W nx bo wt (fun _ => True) n 0 s g ∧ sel s ∧ v.toInt = wt 0 + g) ∧ ∀ n s g, zw_W nx bo wt (fun _ => True) n 0 s g → sel s → zy_le x (wt 0 + g) v.toInt)
theorem zw_optu {nx bo : Nat → Int32} {wt : Nat → Int} {x : Int32} {sel : Nat → Prop} {v w : Int32} (hv : zw_opt nx bo wt x sel v) (hw : zw_opt nx bo wt x sel w) : v = w := by
  apply Int32.toInt_inj.mp
  rcases hv with ⟨h1, h2⟩ | ⟨⟨n, s, g, h1, h2, h3⟩, h4⟩
  · rcases hw with ⟨h5, h6⟩ | ⟨⟨n, s, g, h5, h6, h7⟩, h8⟩
    · rw [h1, h5]
    · exact absurd h6 (h2 n s g h5)
  · rcases hw with ⟨h5, h6⟩ | ⟨⟨n', s', g', h5, h6, h7⟩, h8⟩
    · exact absurd h2 (h6 n s g h1)
    · refine zy_lee (x := x) ?_ ?_
      · rw [h3]; exact h8 n s g h1 h2
      · rw [h7]; exact h4 n' s' g' h5 h6
/-! power, go -/
theorem zw_cle (s b : Nat) : zw_c s b * 3 ^ b ≤ s / 6 := by
  unfold zw_c
  exact Nat.le_trans (Nat.mul_le_mul_right _ (Nat.mod_le _ _)) (Nat.div_mul_le_self _ _)
theorem zw_p3 {b : Nat} (hb : b < 6) : 3 ^ b ≤ 243 ∧ 0 < 3 ^ b := by
  rcases zw_6c hb with rfl | rfl | rfl | rfl | rfl | rfl <;> decide
section
variable {pr mo nx ov wy be : Nat → Int32}
theorem zy_power {post : Int32 → Prop} {b : Nat} (hb : b < 6) (h : post (nI (3 ^ b))) : wpY_power post (pr, mo, nx, ov, wy, be) (nI b) := by
  refine loop_0 (fun n i s => wY_power_4 post (nI b) pr mo nx ov wy be n s (nI i)) (fun i s => s = nI (3 ^ i)) b 1 rfl ?_ ?_
  · intro n s hI
    rw [hI]
    exact br_t (nI_le (Nat.le_refl b) (by omega)) h
  · intro n i s hi hI k
    refine br_f (nI_ge hi (by omega)) (nm_e (nm_r (nI_1 i) (k _ ?_)))
    rw [hI, Nat.pow_succ]
    exact pk_mul _ 3
theorem zy_go40 {post : Int32 → Prop} {s b t : Nat} (hs : s < 4374) (hb : b < 6) (ht : t < 4)
    (h1 : (t : Int) < (mo b).toInt → post (nI (zw_g s b t))) (h0 : ¬ (t : Int) < (mo b).toInt → post (-1)) :
    wY_go_40 post (nI b) (nI (3 ^ b)) (nI (s / 6)) (nI (zw_c s b)) (nI t) pr mo nx ov wy be := by
  refine ⟨zw_i6 hb, ?_⟩
  rw [zw_c6 hb]
  have e : (6 * ((nI (s / 6) - (nI (zw_c s b) * nI (3 ^ b))) + (nI t * nI (3 ^ b)))) + nI b = nI (zw_g s b t) := by
    rw [pk_mul, pk_mul, pk_sub (zw_cle s b), nI_add]
    show nI 6 * _ + _ = _
    rw [pk_mul, nI_add]
    rfl
  rw [e, Int32.lt_iff_toInt_lt, nI_toInt (by omega)]
  exact ⟨h1, h0⟩
theorem zy_go {post : Int32 → Prop} {s b : Nat} (hs : s < 4374) (hb : b < 6) (hov : ∀ b, b < 6 → zw_is (ov b) (fun h => zw_D nx h b)) (he : zw_E nx (s % 6) b) (hl : zw_L nx (s % 6))
    (h1 : ∀ t, t < 4 → zw_St nx mo s (zw_g s b t) → (t : Int) < (mo b).toInt → post (nI (zw_g s b t))) (h0 : (∀ s', zw_St nx mo s s' → s' % 6 ≠ b) → post (-1)) :
    wpY_go post (pr, mo, nx, ov, wy, be) (nI s) (nI b) := by
  unfold wpY_go
  refine zy_power hb ⟨by decide, ?_⟩
  have e6 : nI s / 6 = nI (s / 6) := pk_div (d := 6) (by omega) (by decide) (by decide)
  have em : nI s - nI s / 6 * 6 = nI (s % 6) := pk_rem (d := 6) (by omega) (by decide) (by decide)
  have hp := zw_p3 hb
  refine nm_r e6 ⟨?_, by decide, ?_⟩
  · exact nI_ne0 hp.2 (by omega)
  have ed : nI (s / 6) / nI (3 ^ b) = nI (s / 6 / 3 ^ b) := pk_div (by omega) hp.2 (by omega)
  have hq : s / 6 / 3 ^ b < 2 ^ 31 := Nat.lt_of_le_of_lt (Nat.div_le_self _ _) (by omega)
  refine nm_r (e' := nI (zw_c s b)) ?_ ⟨by decide, ?_⟩
  · rw [ed]
    exact pk_rem (d := 3) hq (by decide) (by decide)
  rw [em]
  have hc3 := zw_c3 s b
  refine zy_backEdge (Nat.mod_lt _ (by decide)) hb hov (fun hB => br_f (by decide) ?_) (fun hB => br_t rfl ?_)
  · rw [nI_1]
    refine zy_go40 hs hb (by omega) (fun ht => h1 _ (by omega) ⟨b, _, he, hl, Or.inl ⟨hB.2.2, rfl⟩, ht, rfl⟩ ht) (fun ht => h0 ?_)
    rintro s' ⟨b', t', he', _, hd', ht', rfl⟩ z
    rw [zw_gn he'.2.1] at z
    subst z
    rcases hd' with ⟨_, rfl⟩ | ⟨hd', _⟩
    · exact ht ht'
    · exact hd' hB.2.2
  · refine zy_go40 (t := 0) hs hb (by omega) (fun ht => h1 _ (by omega) ⟨b, _, he, hl, Or.inr ⟨fun z => hB ⟨he, hl, z⟩, rfl⟩, ht, rfl⟩ ht) (fun ht => h0 ?_)
    rintro s' ⟨b', t', he', _, hd', ht', rfl⟩ z
    rw [zw_gn he'.2.1] at z
    subst z
    rcases hd' with ⟨hd', _⟩ | ⟨_, rfl⟩
    · exact hB ⟨he, hl, hd'⟩
    · exact ht ht'
end
/-! spread -/
def zy_V (nx mo wy be : Nat → Int32) : Prop := ∀ s, s < 4374 → (be s).toInt = -1 ∨ ∃ n g, zw_W nx mo (fun b => (wy b).toInt) (fun _ => True) n 0 s g ∧ (be s).toInt = (wy 0).toInt + g ∧ 0 ≤ g ∧ g ≤ 204750
def zy_gd (x : Int32) (be : Nat → Int32) (s : Nat) (v : Int) : Prop := 0 ≤ (be s).toInt ∧ zy_le x v (be s).toInt
def zy_up (x : Int32) (be be' : Nat → Int32) : Prop := ∀ s, s < 4374 → 0 ≤ (be s).toInt → zy_gd x be' s (be s).toInt
def zy_wo (wy : Nat → Int32) : Prop := ∀ b, b < 6 → 0 ≤ (wy b).toInt ∧ (wy b).toInt ≤ 50
theorem zy_upr (x : Int32) (be : Nat → Int32) : zy_up x be be := fun _ _ h => ⟨h, zy_ler _ _⟩
theorem zy_upt {x : Int32} {a b c : Nat → Int32} (h1 : zy_up x a b) (h2 : zy_up x b c) : zy_up x a c := fun s hs h =>
  ⟨(h2 s hs (h1 s hs h).1).1, zy_let (h1 s hs h).2 (h2 s hs (h1 s hs h).1).2⟩
theorem zy_gdt {x : Int32} {be : Nat → Int32} {s : Nat} {v w : Int} (h1 : zy_le x v w) (h2 : zy_gd x be s w) : zy_gd x be s v := ⟨h2.1, zy_let h1 h2.2⟩
theorem zy_gdu {x : Int32} {be be' : Nat → Int32} {s : Nat} {v : Int} (hs : s < 4374) (hu : zy_up x be be') (h : zy_gd x be s v) : zy_gd x be' s v := zy_gdt h.2 (hu s hs h.1)
/-- a better value is written -/
theorem zy_put {nx mo wy be : Nat → Int32} {x w : Int32} {q : Nat} (hV : zy_V nx mo wy be) (hw : ∃ n g, zw_W nx mo (fun b => (wy b).toInt) (fun _ => True) n 0 q g ∧ w.toInt = (wy 0).toInt + g ∧ 0 ≤ g ∧ g ≤ 204750)
    (h0 : 0 ≤ (wy 0).toInt) (hb : (be q).toInt < 0 ∨ zy_le x (be q).toInt w.toInt) : zy_V nx mo wy (upd be q w) ∧ zy_up x be (upd be q w) ∧ zy_gd x (upd be q w) q w.toInt := by
  have hw0 : 0 ≤ w.toInt := by
    obtain ⟨n, g, _, e, hg, _⟩ := hw
    omega
  refine ⟨?_, ?_, ?_⟩
  · intro s hs
    by_cases hsq : s = q
    · subst hsq; rw [pk_us]; exact Or.inr hw
    · rw [pk_un hsq]; exact hV s hs
  · intro s hs h
    by_cases hsq : s = q
    · subst hsq
      unfold zy_gd
      rw [pk_us]
      exact ⟨hw0, hb.resolve_left (by omega)⟩
    · unfold zy_gd
      rw [pk_un hsq]
      exact ⟨h, zy_ler _ _⟩
  · unfold zy_gd
    rw [pk_us]
    exact ⟨hw0, zy_ler _ _⟩
theorem zw_add32 {x y : Int32} (h1 : 0 ≤ x.toInt) (h2 : 0 ≤ y.toInt) (h3 : x.toInt + y.toInt < 2147483648) : (x + y).toInt = x.toInt + y.toInt := by
  rw [Int32.toInt_add]
  exact Int.bmod_eq_of_le (by omega) (by omega)
theorem zw_lt0 {x : Int32} : x < 0 ↔ x.toInt < 0 := by
  rw [Int32.lt_iff_toInt_lt, show (0 : Int32).toInt = 0 from by decide]
section
variable {pr mo nx ov wy be : Nat → Int32} {m : Nat} {o : Nat → Nat}
theorem zy_sp36 {post : Int32 → SY → Prop} {J5 : Int32 → Int32 → (Nat → Int32) → (Nat → Int32) → (Nat → Int32) → (Nat → Int32) → (Nat → Int32) → (Nat → Int32) → Prop} {x x3 : Int32} {s i q : Nat}
    (hO : zw_O nx m o) (hB : zw_bd mo) (hwo : zy_wo wy) (hs : s < 4374) (hi : i < 6) (hq : q < 4374) (hqi : q % 6 = i) (hst : zw_St nx mo s q) (hV : zy_V nx mo wy be) (hbs : 0 ≤ (be s).toInt)
    (hJ : ∀ be', zy_V nx mo wy be' → zy_up x be be' → zy_gd x be' q ((be s).toInt + (wy i).toInt) → J5 1 (nI (i + 1)) pr mo nx ov wy be')
    (hJ0 : zy_gd x be q ((be s).toInt + (wy i).toInt) → J5 x3 (nI (i + 1)) pr mo nx ov wy be) :
    wY_spread_36 post J5 (nI s) x x3 (nI i) (nI q) pr mo nx ov wy be := by
  have hsv : vp_in (nI s) 4374 := vp_in_nI hs (by decide)
  have hqv : vp_in (nI q) 4374 := vp_in_nI hq (by decide)
  have cs : (nI s).toNatClampNeg = s := nI_clamp (by omega)
  have cq : (nI q).toNatClampNeg = q := nI_clamp (by omega)
  obtain ⟨n, g, hw, eg, hg0, hg1⟩ := (hV s hs).resolve_left (by omega)
  have hwi := hwo i hi
  have hw0 := hwo 0 (by decide)
  have ew : (be s + wy i).toInt = (be s).toInt + (wy i).toInt := zw_add32 hbs hwi.1 (by omega)
  have hwq : zw_W nx mo (fun b => (wy b).toInt) (fun _ => True) (n + 1) 0 q (g + (wy i).toInt) := ⟨s, g, hw, hst, trivial, by rw [hqi]⟩
  have hL0 : zw_L nx (0 % 6) := zw_L0
  have hgq := zw_Wg' hO hB hwo hL0 hwq
  have hput : ∀ hb : (be q).toInt < 0 ∨ zy_le x (be q).toInt (be s + wy i).toInt, wY_spread_100 post J5 (nI s) x (nI i) (nI q) (be s + wy i) pr mo nx ov wy be := by
    intro hb
    have h := zy_put (x := x) hV ⟨n + 1, _, hwq, by rw [ew, eg]; omega, hgq.1, hgq.2⟩ hw0.1 hb
    refine ⟨hqv, nm_r (e' := upd be q (be s + wy i)) (by rw [cq]) (nm_r (nI_1 i) (hJ _ h.1 h.2.1 ?_))⟩
    rw [← ew]
    exact h.2.2
  refine br_f (nI_pos (by omega)) ⟨hsv, zw_i6 hi, nm_r (e' := be s + wy i) (by rw [cs, zw_c6 hi]) ⟨hqv, ?_⟩⟩
  rw [cq]
  refine br_c (fun h1 => hput (Or.inl (zw_lt0.mp h1))) (fun h1 => ?_)
  have hbq : 0 ≤ (be q).toInt := by
    have := mt zw_lt0.mpr h1
    omega
  refine br_c (fun hx => ⟨hqv, ?_⟩) (fun hx => ⟨hqv, ?_⟩)
  · refine br_c (fun h2 => nm_r (nI_1 i) (hJ0 ⟨hbq, fun _ => ?_, fun z => absurd hx z⟩)) (fun h2 => hput (Or.inr ⟨fun _ => ?_, fun z => absurd hx z⟩))
    · rw [Int32.le_iff_toInt_le, ew] at h2; exact h2
    · rw [Int32.le_iff_toInt_le] at h2; omega
  · refine br_c (fun h2 => nm_r (nI_1 i) (hJ0 ⟨hbq, fun z => absurd z hx, fun _ => ?_⟩)) (fun h2 => hput (Or.inr ⟨fun z => absurd z hx, fun _ => ?_⟩))
    · rw [Int32.le_iff_toInt_le, ew] at h2; exact h2
    · rw [Int32.le_iff_toInt_le] at h2; omega
theorem zy_spread {post : Int32 → SY → Prop} {x : Int32} {s : Nat} (hO : zw_O nx m o) (hB : zw_bd mo) (hwo : zy_wo wy) (hov : ∀ b, b < 6 → zw_is (ov b) (fun h => zw_D nx h b)) (hs : s < 4374) (hV : zy_V nx mo wy be) (hbs : 0 ≤ (be s).toInt)
    (hp : ∀ r be', (r = 0 ∨ r = 1) → zy_V nx mo wy be' → zy_up x be be' → (r = 0 → ∀ q, q < 4374 → be' q = be q) → (∀ s', zw_St nx mo s s' → zy_gd x be' s' ((be s).toInt + (wy (s' % 6)).toInt)) → post r (pr, mo, nx, ov, wy, be')) :
    wpY_spread post (pr, mo, nx, ov, wy, be) (nI s) x := by
  refine loop_0 (fun n i (u : Int32 × (Nat → Int32)) => wY_spread_5 post (nI s) x n u.1 (nI i) pr mo nx ov wy (u.2))
    (fun i u => (u.1 = 0 ∨ u.1 = 1) ∧ zy_V nx mo wy u.2 ∧ zy_up x be u.2 ∧ (u.1 = 0 → ∀ q, q < 4374 → u.2 q = be q) ∧ ∀ s', zw_St nx mo s s' → s' % 6 < i → zy_gd x u.2 s' ((be s).toInt + (wy (s' % 6)).toInt)) 6 (0, be)
    ⟨Or.inl rfl, hV, zy_upr x be, fun _ _ _ => rfl, fun _ _ z => by omega⟩ ?_ ?_
  · rintro n ⟨r, be'⟩ ⟨h1, h2, h3, h4, h5⟩
    refine br_t zw_66 ⟨?_, hp r be' h1 h2 h3 h4 (fun s' hs' => h5 s' hs' (Nat.mod_lt _ (by decide)))⟩
    rcases h1 with z | z
    · dsimp only at z; subst z; exact narrow_b0
    · dsimp only at z; subst z; exact narrow_b1
  · rintro n i ⟨r, be'⟩ hi ⟨h1, h2, h3, h4, h5⟩ k
    dsimp only at h1 h2 h3 h4 h5 k ⊢
    have em : nI s - nI s / 6 * 6 = nI (s % 6) := pk_rem (d := 6) (by omega) (by decide) (by decide)
    refine br_f (zw_6 hi) ⟨by decide, ?_⟩
    rw [em]
    have keep : (∀ s', zw_St nx mo s s' → s' % 6 ≠ i) → wY_spread_36 post (wY_spread_5 post (nI s) x n) (nI s) x r (nI i) (-1) pr mo nx ov wy be' := by
      intro hno
      refine br_t (by decide) (nm_r (nI_1 i) (k (r, be') ⟨h1, h2, h3, h4, fun s' hs' z => h5 s' hs' ?_⟩))
      have := hno s' hs'
      omega
    refine zy_edge (Nat.mod_lt _ (by decide)) hi hov (fun he hl => br_f (by decide) ?_) (fun z => br_t rfl (keep ?_))
    · refine zy_go hs hi hov he hl (fun t ht hst htb => ?_) keep
      have ht3 := zw_t3 hB hi htb
      have hq6 : zw_g s i t % 6 = i := zw_gn hi
      have hql := zw_gl hs hi ht3
      have huniq : ∀ s', zw_St nx mo s s' → s' % 6 = i → s' = zw_g s i t := by
        rintro s' ⟨b', t', he', hl', hd', ht', rfl⟩ z
        rw [zw_gn he'.2.1] at z
        subst z
        obtain ⟨b2, t2, he2, hl2, hd2, ht2, e2⟩ := hst
        have hb2 : b2 = b' := by
          have := congrArg (fun y => y % 6) e2
          rw [zw_gn hi, zw_gn he2.2.1] at this
          exact this.symm
        subst hb2
        have htt : t = t2 := by
          have := congrArg (fun y => zw_c y b2) e2
          rw [zw_gc hi ht3, zw_gc hi (zw_t3 hB hi ht2)] at this
          exact this
        subst htt
        rcases hd' with ⟨ha, hb⟩ | ⟨ha, hb⟩
        · rcases hd2 with ⟨hc, hd⟩ | ⟨hc, hd⟩
          · rw [hb, hd]
          · exact absurd ha hc
        · rcases hd2 with ⟨hc, hd⟩ | ⟨hc, hd⟩
          · exact absurd hc ha
          · rw [hb, hd]
      have hbs' := h3 s hs hbs
      have step : ∀ be2, zy_up x be' be2 → zy_gd x be2 (zw_g s i t) ((be' s).toInt + (wy i).toInt) → ∀ s', zw_St nx mo s s' → s' % 6 < i + 1 → zy_gd x be2 s' ((be s).toInt + (wy (s' % 6)).toInt) := by
        intro be2 hu hg s' hs' hlt
        by_cases hsi : s' % 6 = i
        · have := huniq s' hs' hsi
          subst this
          rw [hq6]
          exact zy_gdt (zy_lea _ hbs'.2) hg
        · exact zy_gdu (zw_Sl hB hs' hs) hu (h5 s' hs' (by omega))
      refine zy_sp36 hO hB hwo hs hi hql hq6 hst h2 hbs'.1 (fun be2 hV2 hu2 hg2 => k (1, be2) ⟨Or.inr rfl, hV2, zy_upt h3 hu2, fun z => absurd z (show ¬ (1 : Int32) = 0 by decide), step be2 hu2 hg2⟩) (fun hg2 => k (r, be') ⟨h1, h2, h3, h4, step be' (zy_upr x be') hg2⟩)
    · intro s' hs' hsi
      have := zw_SE hs'
      rw [hsi] at this
      exact z this
end
end
section
/-! follow -/
def zy_B (nx mo wy : Nat → Int32) (x : Int32) (be : Nat → Int32) (p : Nat) : Prop := ∀ n s g, n ≤ p → zw_W nx mo (fun b => (wy b).toInt) (fun _ => True) n 0 s g → zy_gd x be s ((wy 0).toInt + g)
def zy_C (nx mo wy : Nat → Int32) (x : Int32) (be : Nat → Int32) : Prop := ∀ s s', s < 4374 → 0 ≤ (be s).toInt → zw_St nx mo s s' → zy_gd x be s' ((be s).toInt + (wy (s' % 6)).toInt)
theorem zy_BC {nx mo wy be : Nat → Int32} {x : Int32} (hB : zw_bd mo) (h0 : zy_B nx mo wy x be 0) (hC : zy_C nx mo wy x be) : ∀ p, zy_B nx mo wy x be p := by
  intro p
  induction p with
  | zero => exact h0
  | succ p ih =>
    intro n s g hn hw
    cases n with
    | zero => exact h0 0 s g (Nat.le_refl 0) hw
    | succ n =>
      obtain ⟨q, g', hq, hst, _, rfl⟩ := hw
      have h1 := ih n q g' (by omega) hq
      have h2 := hC q s (zw_Wl hB hq (by decide)) h1.1 hst
      have h3 := zy_gdt (zy_lea ((wy (s % 6)).toInt) h1.2) h2
      rw [Int.add_assoc] at h3
      exact h3
section
variable {pr mo nx ov wy be : Nat → Int32} {m : Nat} {o : Nat → Nat}
theorem zy_fo54 {post : SY → Prop} {J38 : Int32 → Int32 → (Nat → Int32) → (Nat → Int32) → (Nat → Int32) → (Nat → Int32) → (Nat → Int32) → (Nat → Int32) → Prop} {x x3 : Int32} {p : Nat}
    (hO : zw_O nx m o) (hB : zw_bd mo) (hwo : zy_wo wy) (hov : ∀ b, b < 6 → zw_is (ov b) (fun h => zw_D nx h b)) (hV : zy_V nx mo wy be) (hP : zy_B nx mo wy x be p)
    (hJ : ∀ r be', (r = 0 ∨ r = 1) → zy_V nx mo wy be' → zy_B nx mo wy x be' (p + 1) → (r = 0 → zy_C nx mo wy x be') → J38 r (x3 + 1) pr mo nx ov wy be') :
    ∃ n, wY_follow_54 post J38 x x3 n 0 0 pr mo nx ov wy be := by
  refine loop_0 (fun n i (u : Int32 × (Nat → Int32)) => wY_follow_54 post J38 x x3 n u.1 (nI i) pr mo nx ov wy (u.2))
    (fun i u => (u.1 = 0 ∨ u.1 = 1) ∧ zy_V nx mo wy u.2 ∧ zy_up x be u.2 ∧ (u.1 = 0 → ∀ q, q < 4374 → u.2 q = be q) ∧ ∀ s s', s < i → s < 4374 → 0 ≤ (be s).toInt → zw_St nx mo s s' → zy_gd x u.2 s' ((be s).toInt + (wy (s' % 6)).toInt)) 4374 (0, be)
    ⟨Or.inl rfl, hV, zy_upr x be, fun _ _ _ => rfl, fun _ _ z => by omega⟩ ?_ ?_
  · rintro n ⟨r, be'⟩ ⟨h1, h2, h3, h4, h5⟩
    refine br_t (by decide) (nm_e (hJ r be' h1 h2 ?_ ?_))
    · intro n s g hn hw
      cases n with
      | zero => exact zy_gdu (zw_Wl hB hw (by decide)) h3 (hP 0 s g (Nat.zero_le p) hw)
      | succ n =>
        obtain ⟨q, g', hq, hst, _, rfl⟩ := hw
        have a1 := hP n q g' (by omega) hq
        have hq4 := zw_Wl hB hq (by decide)
        have a3 := zy_gdt (zy_lea ((wy (s % 6)).toInt) a1.2) (h5 q s hq4 hq4 a1.1 hst)
        rw [Int.add_assoc] at a3
        exact a3
    · intro hr s s' hs hbs hst
      dsimp only at h4 h5
      rw [h4 hr s hs] at hbs ⊢
      exact h5 s s' hs hs hbs hst
  · rintro n i ⟨r, be'⟩ hi ⟨h1, h2, h3, h4, h5⟩ k
    dsimp only at h1 h2 h3 h4 h5 k ⊢
    have hiv : vp_in (nI i) 4374 := vp_in_nI hi (by decide)
    have ci : (nI i).toNatClampNeg = i := nI_clamp (by omega)
    refine br_f (nI_ge (b := 4374) hi (by decide)) ⟨hiv, ?_⟩
    rw [ci]
    refine br_c (fun hb => nm_r (nI_1 i) (k (r, be') ⟨h1, h2, h3, h4, fun s s' hsi hs hbs hst => ?_⟩)) (fun hb => ?_)
    · by_cases hse : s = i
      · subst hse
        have := (h3 s hs hbs).1
        have := zw_lt0.mp hb
        omega
      · exact h5 s s' (by omega) hs hbs hst
    · have hbi : 0 ≤ (be' i).toInt := by
        have := mt zw_lt0.mpr hb
        omega
      refine zy_spread (x := x) hO hB hwo hov hi h2 hbi ?_
      intro r2 be2 g1 g2 g3 g4 g5
      have hcl : ∀ s s', s < i + 1 → s < 4374 → 0 ≤ (be s).toInt → zw_St nx mo s s' → zy_gd x be2 s' ((be s).toInt + (wy (s' % 6)).toInt) := by
        intro s s' hsi hs hbs hst
        by_cases hse : s = i
        · subst hse
          exact zy_gdt (zy_lea _ (h3 s hs hbs).2) (g5 s' hst)
        · exact zy_gdu (zw_Sl hB hst hs) g3 (h5 s s' (by omega) hs hbs hst)
      have hone : wY_follow_54 post J38 x x3 n 1 (nI (i + 1)) pr mo nx ov wy be2 := k (1, be2) ⟨Or.inr rfl, g2, zy_upt h3 g3, fun z => absurd z (show ¬ (1 : Int32) = 0 by decide), hcl⟩
      refine br_c (fun hr2 => ?_) (fun _ => nm_r (nI_1 i) hone)
      refine br_c (fun hr => nm_r (nI_1 i) (k (0, be2) ⟨Or.inl rfl, g2, zy_upt h3 g3, fun _ q hq => ?_, hcl⟩)) (fun _ => nm_r (nI_1 i) hone)
      exact (g4 hr2 q hq).trans (h4 hr q hq)
theorem zy_follow {post : SY → Prop} {x : Int32} (hO : zw_O nx m o) (hB : zw_bd mo) (hwo : zy_wo wy) (hov : ∀ b, b < 6 → zw_is (ov b) (fun h => zw_D nx h b))
    (hp : ∀ be', zy_V nx mo wy be' → (∀ p, zy_B nx mo wy x be' p) → post (pr, mo, nx, ov, wy, be')) : wpY_follow post (pr, mo, nx, ov, wy, be) x := by
  refine loop_0 (fun n i s => wY_follow_2 post x n (nI i) pr mo nx ov wy s) (fun i s => ∀ q, q < i → s q = -1) 4374 be (fun q hq => absurd hq (by omega)) ?_ ?_
  · intro n s hI
    refine br_t (by decide) (nm_e ?_)
    have hw0 := hwo 0 (by decide)
    have hV0 : zy_V nx mo wy (upd s 0 (wy 0)) := by
      intro q hq
      by_cases hq0 : q = 0
      · subst hq0
        rw [pk_us]
        exact Or.inr ⟨0, 0, ⟨rfl, rfl⟩, by omega, by omega, by omega⟩
      · rw [pk_un hq0, hI q hq]
        exact Or.inl (by decide)
    have hB0 : zy_B nx mo wy x (upd s 0 (wy 0)) 0 := by
      intro n q g hn hw
      have : n = 0 := by omega
      subst this
      obtain ⟨rfl, rfl⟩ := hw
      unfold zy_gd
      rw [pk_us, Int.add_zero]
      exact ⟨hw0.1, zy_ler _ _⟩
    refine loop_0 (fun n i (u : Int32 × (Nat → Int32)) => wY_follow_38 post x n u.1 (nI i) pr mo nx ov wy (u.2)) (fun i u => (u.1 = 0 ∨ u.1 = 1) ∧ zy_V nx mo wy u.2 ∧ zy_B nx mo wy x u.2 i ∧ (u.1 = 0 → zy_C nx mo wy x u.2)) 4374 (1, upd s 0 (wy 0))
      ⟨Or.inr rfl, hV0, hB0, fun z => absurd z (show ¬ (1 : Int32) = 0 by decide)⟩ ?_ ?_
    · rintro n ⟨r, be'⟩ ⟨h1, h2, h3, h4⟩
      refine br_t (by decide) (hp be' h2 (fun p n s g _ hw => h3 n s g ?_ hw))
      have := zw_Wn hO hB (s := 0) zw_L0 hw
      omega
    · rintro n i ⟨r, be'⟩ hi ⟨h1, h2, h3, h4⟩ k
      refine br_f (nI_ge (b := 4374) hi (by decide)) (br_c (fun hr => hp be' h2 (zy_BC hB (fun n s g hn hw => h3 n s g (by omega) hw) (h4 hr))) (fun hr => ?_))
      refine zy_fo54 hO hB hwo hov h2 h3 ?_
      intro r2 be2 g1 g2 g3 g4
      rw [nI_1]
      exact k (r2, be2) ⟨g1, g2, g3, g4⟩
  · intro n i s hi hI k
    have hiv : vp_in (nI i) 4374 := vp_in_nI hi (by decide)
    have ci : (nI i).toNatClampNeg = i := nI_clamp (by omega)
    refine br_f (nI_ge (b := 4374) hi (by decide)) ⟨hiv, nm_r (e' := upd s i (-1)) (by rw [ci]) (nm_r (nI_1 i) (k _ ?_))⟩
    intro q hq
    by_cases hqi : q = i
    · subst hqi; exact pk_us
    · rw [pk_un hqi]; exact hI q (by omega)
/-! value -/
theorem zy_value {post : Int32 → Prop} {x p : Int32} {sel : Nat → Prop} (hsel : ∀ s, s < 4374 → (sel s ↔ (p < 0 ∨ nI (s % 6) = p)))
    (hV : zy_V nx mo wy be) (hP : ∀ p, zy_B nx mo wy x be p) (hB : zw_bd mo) (hwo : zy_wo wy)
    (hp : ∀ v, zw_opt nx mo (fun b => (wy b).toInt) x sel v → post v) : wpY_value post (pr, mo, nx, ov, wy, be) p x := by
  have hw0 := hwo 0 (by decide)
  refine loop_0 (fun n i v => wY_value_5 post p x pr mo nx ov wy be n v (nI i)) (fun i v => (v.toInt = -1 ∧ ∀ s, s < i → s < 4374 → sel s → (be s).toInt < 0) ∨ (0 ≤ v.toInt ∧ (∃ s, s < 4374 ∧ sel s ∧ (be s).toInt = v.toInt) ∧ ∀ s, s < i → s < 4374 → sel s → 0 ≤ (be s).toInt → zy_le x (be s).toInt v.toInt)) 4374 (-1)
    (Or.inl ⟨by decide, fun s hs => absurd hs (by omega)⟩) ?_ ?_
  · intro n v hI
    refine br_t (by decide) (hp v ?_)
    rcases hI with ⟨h1, h2⟩ | ⟨h1, ⟨s, hs, hsl, hbs⟩, h3⟩
    · refine Or.inl ⟨h1, fun n s g hw hs => ?_⟩
      have h4 := zw_Wl hB hw (by decide)
      have h5 := (hP n n s g (Nat.le_refl n) hw).1
      have h6 := h2 s h4 h4 hs
      omega
    · obtain ⟨n, g, hw, eg, _, _⟩ := (hV s hs).resolve_left (by omega)
      refine Or.inr ⟨⟨n, s, g, hw, hsl, by rw [← hbs]; exact eg⟩, fun n s g hw hsl => ?_⟩
      have h4 := zw_Wl hB hw (by decide)
      have h5 := hP n n s g (Nat.le_refl n) hw
      exact zy_let h5.2 (h3 s h4 h4 hsl h5.1)
  · intro n i v hi hI k
    have hiv : vp_in (nI i) 4374 := vp_in_nI hi (by decide)
    have ci : (nI i).toNatClampNeg = i := nI_clamp (by omega)
    have em : nI i - nI i / 6 * 6 = nI (i % 6) := pk_rem (d := 6) (by omega) (by decide) (by decide)
    have keep : (sel i → (be i).toInt < 0 ∨ (0 ≤ v.toInt ∧ zy_le x (be i).toInt v.toInt)) → wY_value_5 post p x pr mo nx ov wy be n v (nI (i + 1)) := by
      intro hno
      refine k v ?_
      rcases hI with ⟨h1, h2⟩ | ⟨h1, h2, h3⟩
      · refine Or.inl ⟨h1, fun s hsi hs hsl => ?_⟩
        by_cases hse : s = i
        · subst hse
          rcases hno hsl with z | z
          · exact z
          · omega
        · exact h2 s (by omega) hs hsl
      · refine Or.inr ⟨h1, h2, fun s hsi hs hsl hbs => ?_⟩
        by_cases hse : s = i
        · subst hse
          rcases hno hsl with z | z
          · omega
          · exact z.2
        · exact h3 s (by omega) hs hsl hbs
    have put : sel i → 0 ≤ (be i).toInt → (v.toInt < 0 ∨ zy_le x v.toInt (be i).toInt) → wY_value_69 post (wY_value_5 post p x pr mo nx ov wy be n) p x (nI i) pr mo nx ov wy be := by
      intro hsl hbi hv
      refine ⟨hiv, nm_r (e' := be i) (by rw [ci]) (nm_r (nI_1 i) (k _ (Or.inr ⟨hbi, ⟨i, hi, hsl, rfl⟩, fun s hsi hs hsl' hbs => ?_⟩)))⟩
      by_cases hse : s = i
      · subst hse; exact zy_ler _ _
      · rcases hI with ⟨h1, h2⟩ | ⟨h1, h2, h3⟩
        · have := h2 s (by omega) hs hsl'
          omega
        · exact zy_let (h3 s (by omega) hs hsl' hbs) (hv.resolve_left (by omega))
    have cmp : sel i → 0 ≤ (be i).toInt → wY_value_36 post (wY_value_5 post p x pr mo nx ov wy be n) p x v (nI i) pr mo nx ov wy be := by
      intro hsl hbi
      refine br_c (fun hv => put hsl hbi (Or.inl (zw_lt0.mp hv))) (fun hv => ?_)
      have hv0 : 0 ≤ v.toInt := by
        have := mt zw_lt0.mpr hv
        omega
      refine br_c (fun hx => ⟨hiv, ?_⟩) (fun hx => ⟨hiv, ?_⟩)
      · rw [ci]
        refine br_c (fun h2 => nm_r (nI_1 i) (keep (fun _ => Or.inr ⟨hv0, fun _ => ?_, fun z => absurd hx z⟩))) (fun h2 => put hsl hbi (Or.inr ⟨fun _ => ?_, fun z => absurd hx z⟩))
        · rw [Int32.le_iff_toInt_le] at h2; exact h2
        · rw [Int32.le_iff_toInt_le] at h2; omega
      · rw [ci]
        refine br_c (fun h2 => nm_r (nI_1 i) (keep (fun _ => Or.inr ⟨hv0, fun z => absurd z hx, fun _ => ?_⟩))) (fun h2 => put hsl hbi (Or.inr ⟨fun z => absurd z hx, fun _ => ?_⟩))
        · rw [Int32.le_iff_toInt_le] at h2; exact h2
        · rw [Int32.le_iff_toInt_le] at h2; omega
    refine br_f (nI_ge (b := 4374) hi (by decide)) ⟨hiv, ?_⟩
    rw [ci]
    refine br_c (fun hb => nm_r (nI_1 i) (keep (fun _ => Or.inl (zw_lt0.mp hb)))) (fun hb => ?_)
    have hbi : 0 ≤ (be i).toInt := by
      have := mt zw_lt0.mpr hb
      omega
    refine br_c (fun hp0 => cmp ((hsel i hi).mpr (Or.inl hp0)) hbi) (fun hp0 => ⟨by decide, ?_⟩)
    rw [em]
    refine br_c (fun hpe => cmp ((hsel i hi).mpr (Or.inr hpe)) hbi) (fun hpe => nm_r (nI_1 i) (keep (fun z => ?_)))
    rcases (hsel i hi).mp z with z | z
    · exact absurd z hp0
    · exact absurd z hpe
/-! weigh -/
theorem zy_weigh {post : SY → Prop} (h : ∀ wy', (∀ b, b < 6 → wy' b = pr b) → post (pr, mo, nx, ov, wy', be)) : wpY_weigh post (pr, mo, nx, ov, wy, be) := by
  refine loop_0 (fun n i s => wY_weigh_2 post n (nI i) pr mo nx ov s be) (fun i s => ∀ b, b < i → s b = pr b) 6 wy (fun b hb => absurd hb (by omega)) ?_ ?_
  · intro n s hI
    exact br_t zw_66 (h s hI)
  · intro n i s hi hI k
    refine br_f (zw_6 hi) ⟨zw_i6 hi, zw_i6 hi, nm_r (e' := upd s i (pr i)) (by rw [zw_c6 hi]) (nm_r (nI_1 i) (k _ ?_))⟩
    intro b hb
    by_cases hbi : b = i
    · subst hbi; exact pk_us
    · rw [pk_un hbi]; exact hI b (by omega)
end
/-! walks know the weights of blocks 0 .. 5 alone -/
theorem zw_Wwt {nx bo : Nat → Int32} {wt wt' : Nat → Int} {A : Nat → Prop} (hw : ∀ b, b < 6 → wt b = wt' b) {n s s1 : Nat} {g : Int} (h : zw_W nx bo wt A n s s1 g) : zw_W nx bo wt' A n s s1 g := by
  induction n generalizing s1 g with
  | zero => exact h
  | succ n ih =>
    obtain ⟨q, g', hq, hs, ha, rfl⟩ := h
    exact ⟨q, g', ih hq, hs, ha, by rw [hw _ (Nat.mod_lt _ (by decide))]⟩
theorem zw_optwt {nx bo : Nat → Int32} {wt wt' : Nat → Int} {x : Int32} {sel : Nat → Prop} {v : Int32} (hw : ∀ b, b < 6 → wt b = wt' b) (h : zw_opt nx bo wt x sel v) : zw_opt nx bo wt' x sel v := by
  have hw' : ∀ b, b < 6 → wt' b = wt b := fun b hb => (hw b hb).symm
  rcases h with ⟨h1, h2⟩ | ⟨⟨n, s, g, h1, h2, h3⟩, h4⟩
  · exact Or.inl ⟨h1, fun n s g hq => h2 n s g (zw_Wwt hw' hq)⟩
  · exact Or.inr ⟨⟨n, s, g, zw_Wwt hw h1, h2, by rw [← hw 0 (by decide)]; exact h3⟩, fun n s g hq hs => by rw [← hw 0 (by decide)]; exact h4 n s g (zw_Wwt hw' hq) hs⟩
section
variable {pr mo nx ov wy be : Nat → Int32}
theorem zy_asked {post : Int32 → SY → Prop} {x p : Int32} {sel : Nat → Prop} (hsel : ∀ s, s < 4374 → (sel s ↔ (p < 0 ∨ nI (s % 6) = p))) (hnx : ∀ a, a < 6 → zw_S (nx a)) (hB : zw_bd mo) (hpo : zy_wo pr)
    (hO : ¬ zw_G nx → ∃ m o, zw_O nx m o)
    (h0 : zw_G nx → ∀ ov, post (-1) (pr, mo, nx, ov, wy, be)) (h1 : ¬ zw_G nx → ∀ v ov wy be, zw_opt nx mo (fun b => (pr b).toInt) x sel v → post v (pr, mo, nx, ov, wy, be)) : wpY_asked post (pr, mo, nx, ov, wy, be) p x := by
  unfold wpY_asked
  refine zy_regular hnx (fun ov hov hg => br_f (by decide) ?_) (fun ov hov hg => br_t rfl (h0 hg ov))
  obtain ⟨m, o, hO⟩ := hO hg
  refine zy_weigh ?_
  intro wy hwy
  have hwo : zy_wo wy := fun b hb => by rw [hwy b hb]; exact hpo b hb
  refine zy_follow hO hB hwo hov ?_
  intro be hV hP
  refine zy_value hsel hV hP hB hwo ?_
  intro v hv
  exact h1 hg v ov wy be (zw_optwt (fun b hb => by rw [hwy b hb]) hv)
end
end
section
/-! the largest loop that holds a block within a part -/
def zw_cd (nx : Nat → Int32) (Pp : Nat → Prop) (q K b : Nat) : Prop := zw_I nx K b ∧ K ≠ q ∧ ∀ y, zw_I nx K y → Pp y
def zw_tp (nx : Nat → Int32) (Pp : Nat → Prop) (q H b : Nat) : Prop := zw_cd nx Pp q H b ∧ ∀ K, zw_cd nx Pp q K b → ∀ y, zw_I nx K y → zw_I nx H y
def zw_no (nx : Nat → Int32) (Pp : Nat → Prop) (q b : Nat) : Prop := ∀ K, ¬ zw_cd nx Pp q K b
section
variable {nx : Nat → Int32} {Pp : Nat → Prop} {q : Nat}
theorem zw_tpu {H K b : Nat} (h1 : zw_tp nx Pp q H b) (h2 : zw_tp nx Pp q K b) : H = K :=
  zw_Da (zw_ID (h1.2 K h2.1 K (zw_Ihh h2.1.1))) (zw_ID (h2.2 H h1.1 H (zw_Ihh h1.1.1)))
theorem zw_tpl {H v w : Nat} (h : zw_tp nx Pp q H w) (hv : zw_I nx H v) : zw_tp nx Pp q H v := by
  refine ⟨⟨hv, h.1.2.1, h.1.2.2⟩, ?_⟩
  intro K hK
  by_cases hn : K = H
  · subst hn; exact fun _ z => z
  · rcases zw_Ic hK.1 hv with hc | hc
    · exact zw_In hc hn
    · have hs := zw_In hc (fun z => hn z.symm)
      exact h.2 K ⟨hs w h.1.1, hK.2⟩
theorem zw_tpe (nx : Nat → Int32) (Pp : Nat → Prop) (q b : Nat) : zw_no nx Pp q b ∨ ∃ H, zw_tp nx Pp q H b := by
  have key : ∀ n K, 6 - zw_z nx K ≤ n → zw_cd nx Pp q K b → ∃ H, zw_tp nx Pp q H b := by
    intro n
    induction n with
    | zero =>
      intro K hz hK
      refine ⟨K, hK, fun K' h' => zw_zc h'.1 hK.1 ?_⟩
      have : zw_z nx K' ≤ 6 := zw_n6 _
      omega
    | succ n ih =>
      intro K hz hK
      by_cases ht : zw_tp nx Pp q K b
      · exact ⟨K, ht⟩
      · have : ∃ K', zw_cd nx Pp q K' b ∧ ¬ zw_z nx K' ≤ zw_z nx K := by
          apply Classical.byContradiction
          intro hn
          refine ht ⟨hK, fun K' h' => zw_zc h'.1 hK.1 ?_⟩
          exact Classical.byContradiction fun z => hn ⟨K', h', z⟩
        obtain ⟨K', h', hz'⟩ := this
        exact ih K' (by omega) h'
  by_cases h : ∃ K, zw_cd nx Pp q K b
  · obtain ⟨K, hK⟩ := h
    exact Or.inr (key _ K (Nat.le_refl _) hK)
  · exact Or.inl (fun K hK => h ⟨K, hK⟩)
theorem zw_tpb {H a b : Nat} (hf : zw_F nx a b) (h : zw_tp nx Pp q H b) (hn : ¬ zw_tp nx Pp q H a) : H = b := by
  apply Classical.byContradiction
  intro z
  exact hn (zw_tpl h (zw_Is hf.1 hf.2.1 h.1.1 (fun y => z y.symm)))
end
/-! values found so far: every one of them is that of a walk -/
def zx_R (nx bo : Nat → Int32) (wt : Nat → Int) (Bs A : Nat → Prop) (w0 : Int) (Pp : Nat → Prop) (re : Nat → Int32) : Prop :=
  ∀ b, b < 6 → (re b).toInt = -1000000 ∨ (Pp b ∧ 0 ≤ (re b).toInt ∧ (re b).toInt ≤ 204800 ∧ ∀ s, Bs s → ∃ n s' g, zw_W nx bo wt A n s s' g ∧ s' % 6 = b ∧ (re b).toInt = w0 + g)
def zx_s1 (nx bo : Nat → Int32) (wt : Nat → Int) (il : Nat → Int32) (H : Nat) : Prop :=
  ∀ y, y < 6 → (il (H * 6 + y)).toInt = -1000000 ∨ (zw_I nx H y ∧ 0 ≤ (il (H * 6 + y)).toInt ∧ (il (H * 6 + y)).toInt ≤ 204800 ∧
    ∀ s, s < 4374 → s % 6 = H → zw_c s H = 0 → ∃ n s' g, zw_W nx bo wt (zw_I nx H) n s s' g ∧ s' % 6 = y ∧ (il (H * 6 + y)).toInt = wt H + g)
/-- forward and back edges are taken into account -/
def zx_fb (nx : Nat → Int32) (wt Q Rr : Nat → Int) (v : Nat → Int) (Pp : Nat → Prop) (q : Nat) : Prop :=
  (∀ a b, zw_F nx a b → Pp a → Pp b → v a ≠ -1000000 → v b ≠ -1000000 ∧ v a + wt b + Q b ≤ v b) ∧
  (∀ a b, zw_B nx a b → Pp a → Pp b → b ≠ q → v a ≠ -1000000 → v b ≠ -1000000 ∧ v a + wt b ≤ v b + Rr b)
def zx_sm (nx bo : Nat → Int32) (wt Q Rr : Nat → Int) (il : Nat → Int32) (H : Nat) : Prop :=
  zx_s1 nx bo wt il H ∧ zx_fb nx wt Q Rr (fun y => (il (H * 6 + y)).toInt) (zw_I nx H) 6 ∧ (il (H * 6 + H)).toInt ≠ -1000000 ∧ wt H + Q H ≤ (il (H * 6 + H)).toInt
/-- the blocks of a loop that is passed as a whole differ by what its table says -/
def zx_sh (nx : Nat → Int32) (Pp : Nat → Prop) (q : Nat) (il : Nat → Int32) (v : Nat → Int) : Prop :=
  ∀ H w, zw_tp nx Pp q H w → (∀ y, zw_I nx H y → v y = -1000000) ∨ ∃ X : Int, 0 ≤ X ∧ ∀ y, zw_I nx H y → ((il (H * 6 + y)).toInt = -1000000 → v y = -1000000) ∧ ((il (H * 6 + y)).toInt ≠ -1000000 → v y = X + (il (H * 6 + y)).toInt)
def zx_c1 (nx : Nat → Int32) (Pp : Nat → Prop) (q : Nat) (wt : Nat → Int) (il : Nat → Int32) (v : Nat → Int) (a b : Nat) : Prop :=
  zw_F nx a b → Pp b → (¬ ∃ H, zw_tp nx Pp q H a ∧ zw_tp nx Pp q H b) →
  (zw_no nx Pp q b → v a + wt b ≤ v b) ∧ (∀ H, zw_tp nx Pp q H b → ∀ y, zw_I nx H y → (il (H * 6 + y)).toInt ≠ -1000000 → v a + (il (H * 6 + y)).toInt ≤ v y)
/-- what a part (a loop without its own head's loop, or all) must have -/
def zx_pt (nx : Nat → Int32) (Pp : Nat → Prop) (q : Nat) (A : Nat → Prop) : Prop :=
  (∀ a b, zw_F nx a b → Pp a → Pp b → A b ∧ b ≠ q) ∧ (∀ K y, K ≠ q → (∀ y, zw_I nx K y → Pp y) → zw_I nx K y → A y) ∧
  (∀ K, zw_I nx K K → Pp K → K ≠ q → ∀ y, zw_I nx K y → Pp y) ∧ (∀ y, Pp y → zw_L nx y)
section
variable {nx bo : Nat → Int32} {wt Q Rr : Nat → Int} {Bs A Pp : Nat → Prop} {w0 : Int} {q : Nat} {il re : Nat → Int32}
theorem zx_fin (hpt : zx_pt nx Pp q A) (hw : ∀ b, b < 6 → 0 ≤ wt b) (hQ : ∀ b, b < 6 → 0 ≤ Q b) (hz : ∀ w, w < 6 → ¬ zw_I nx w w → Q w = 0)
    (hR : zx_R nx bo wt Bs A w0 Pp re) (hsh : zx_sh nx Pp q il (fun y => (re y).toInt))
    (hce : ∀ a b, Pp a → (re a).toInt ≠ -1000000 → zx_c1 nx Pp q wt il (fun y => (re y).toInt) a b)
    (hS : ∀ K, K ≠ q → (∀ y, zw_I nx K y → Pp y) → zw_I nx K K → zx_sm nx bo wt Q Rr il K) :
    zx_fb nx wt Q Rr (fun y => (re y).toInt) Pp q := by
  have hge : ∀ y, y < 6 → (re y).toInt ≠ -1000000 → 0 ≤ (re y).toInt := by
    intro y hy h
    exact ((hR y hy).resolve_left h).2.1
  constructor
  · intro a b hf pa pb va
    dsimp only at va ⊢
    have ha6 := hf.1.1
    have hb6 := hf.1.2.1
    have hwb := hw b hb6
    have hQb := hQ b hb6
    have hva := hge a ha6 va
    by_cases hsame : ∃ H, zw_tp nx Pp q H a ∧ zw_tp nx Pp q H b
    · obtain ⟨H, hta, htb⟩ := hsame
      have hs := hS H hta.1.2.1 hta.1.2.2 (zw_Ihh hta.1.1)
      rcases hsh H a hta with h | ⟨X, hX, h⟩
      · exact absurd (h a hta.1.1) va
      · have h1 := h a hta.1.1
        have h2 := h b htb.1.1
        dsimp only at h1 h2
        have ila : (il (H * 6 + a)).toInt ≠ -1000000 := fun z => va (h1.1 z)
        have h3 := hs.2.1.1 a b hf hta.1.1 htb.1.1 ila
        dsimp only at h3
        have h4 := h1.2 ila
        have h5 := h2.2 h3.1
        have h6 := h3.2
        omega
    · have hc := hce a b pa va hf pb hsame
      dsimp only at hc
      rcases zw_tpe nx Pp q b with hno | ⟨H, ht⟩
      · have h1 := hc.1 hno
        have hq0 : Q b = 0 := by
          apply hz b hb6
          intro hbb
          have hbq := (hpt.1 a b hf pa pb).2
          exact hno b ⟨hbb, hbq, hpt.2.2.1 b hbb pb hbq⟩
        omega
      · have hHb : H = b := zw_tpb hf ht (fun z => hsame ⟨H, z, ht⟩)
        subst hHb
        have hs := hS H ht.1.2.1 ht.1.2.2 (zw_Ihh ht.1.1)
        have h1 := hc.2 H ht H ht.1.1 hs.2.2.1
        have h2 := hs.2.2.2
        omega
  · intro a b hB pa pb hbq va
    dsimp only at va ⊢
    have hbb := zw_Ih hB
    rcases zw_tpe nx Pp q b with hno | ⟨H, ht⟩
    · exact absurd ⟨hbb, hbq, hpt.2.2.1 b hbb pb hbq⟩ (hno b)
    · have hHa : zw_I nx H a := by
        by_cases hHb : b = H
        · subst hHb; exact zw_Ib hB
        · exact zw_Is hB.1 hB.2.1 ht.1.1 hHb
      have hs := hS H ht.1.2.1 ht.1.2.2 (zw_Ihh ht.1.1)
      rcases hsh H b ht with h | ⟨X, hX, h⟩
      · exact absurd (h a hHa) va
      · have h1 := h a hHa
        have h2 := h b ht.1.1
        dsimp only at h1 h2
        have ila : (il (H * 6 + a)).toInt ≠ -1000000 := fun z => va (h1.1 z)
        have hb6 := hB.1.2.1
        have h3 := hs.2.1.2 a b hB hHa ht.1.1 (by omega) ila
        dsimp only at h3
        have h4 := h1.2 ila
        have h5 := h2.2 h3.1
        have h6 := ((hs.1 b hb6).resolve_left h3.1).2.1
        omega
end
/-! comeTo as a step -/
def zx_cm (re re' : Nat → Int32) (D : Nat → Prop) (v : Nat → Int) : Prop :=
  ∀ y, y < 6 → (¬ D y → re' y = re y) ∧ (D y → ((re' y = re y ∧ v y ≤ (re y).toInt) ∨ ((re' y).toInt = v y ∧ (re y).toInt < v y)))
theorem zx_cmm {re re' : Nat → Int32} {D : Nat → Prop} {v : Nat → Int} (h : zx_cm re re' D v) {y : Nat} (hy : y < 6) : (re y).toInt ≤ (re' y).toInt := by
  by_cases hd : D y
  · rcases (h y hy).2 hd with ⟨e, _⟩ | ⟨e, hl⟩
    · rw [e]; exact Int.le_refl _
    · omega
  · rw [(h y hy).1 hd]; exact Int.le_refl _
theorem zx_cmg {re re' : Nat → Int32} {D : Nat → Prop} {v : Nat → Int} (h : zx_cm re re' D v) {y : Nat} (hy : y < 6) (hd : D y) : v y ≤ (re' y).toInt := by
  rcases (h y hy).2 hd with ⟨e, hl⟩ | ⟨e, hl⟩
  · rw [e]; exact hl
  · omega
section
variable {nx bo : Nat → Int32} {wt Q Rr : Nat → Int} {Bs A Pp : Nat → Prop} {w0 : Int} {q : Nat} {il re re' : Nat → Int32} {m : Nat} {o : Nat → Nat}
theorem zx_cmR {D : Nat → Prop} {v : Nat → Int} (h : zx_cm re re' D v) (hR : zx_R nx bo wt Bs A w0 Pp re)
    (hD : ∀ y, y < 6 → D y → Pp y ∧ 0 ≤ v y ∧ v y ≤ 204800 ∧ ∀ s, Bs s → ∃ n s' g, zw_W nx bo wt A n s s' g ∧ s' % 6 = y ∧ v y = w0 + g) : zx_R nx bo wt Bs A w0 Pp re' := by
  intro y hy
  by_cases hd : D y
  · rcases (h y hy).2 hd with ⟨e, _⟩ | ⟨e, _⟩
    · rw [e]; exact hR y hy
    · rw [e]; exact Or.inr (hD y hy hd)
  · rw [(h y hy).1 hd]; exact hR y hy
/-- coming to a block that is in no loop within the part -/
theorem zx_shn {b : Nat} {v : Nat → Int} (hno : zw_no nx Pp q b) (h : zx_cm re re' (fun y => y = b) v) (hsh : zx_sh nx Pp q il (fun y => (re y).toInt)) : zx_sh nx Pp q il (fun y => (re' y).toInt) := by
  intro H w ht
  have keep : ∀ y, zw_I nx H y → re' y = re y := by
    intro y hy
    refine (h y (zw_I6 hy)).1 ?_
    intro z
    subst z
    exact hno H (zw_tpl ht hy).1
  rcases hsh H w ht with hs | ⟨X, hX, hs⟩
  · exact Or.inl (fun y hy => by dsimp only; rw [keep y hy]; exact hs y hy)
  · exact Or.inr ⟨X, hX, fun y hy => by dsimp only; rw [keep y hy]; exact hs y hy⟩
/-- coming to a loop as a whole -/
theorem zx_shl {b : Nat} {so : Int} (ht : zw_tp nx Pp q b b) (hso : 0 ≤ so) (hs1 : zx_s1 nx bo wt il b) (h : zx_cm re re' (fun y => (il (b * 6 + y)).toInt ≠ -1000000) (fun y => so + (il (b * 6 + y)).toInt))
    (hsh : zx_sh nx Pp q il (fun y => (re y).toInt)) : zx_sh nx Pp q il (fun y => (re' y).toInt) := by
  intro H w htH
  by_cases hHb : H = b
  · subst hHb
    rcases hsh H w htH with hs | ⟨X, hX, hs⟩
    · refine Or.inr ⟨so, hso, fun y hy => ⟨fun z => ?_, fun z => ?_⟩⟩
      · dsimp only; rw [(h y (zw_I6 hy)).1 (fun g => g z)]; exact hs y hy
      · have h0 := hs y hy
        dsimp only at h0 ⊢
        have hp := ((hs1 y (zw_I6 hy)).resolve_left z).2.1
        rcases (h y (zw_I6 hy)).2 z with ⟨_, e⟩ | ⟨e, _⟩
        · dsimp only at e; omega
        · exact e
    · refine Or.inr ⟨max X so, by omega, fun y hy => ⟨fun z => ?_, fun z => ?_⟩⟩
      · dsimp only; rw [(h y (zw_I6 hy)).1 (fun g => g z)]; exact (hs y hy).1 z
      · have h0 := (hs y hy).2 z
        dsimp only at h0 ⊢
        rcases (h y (zw_I6 hy)).2 z with ⟨e, e2⟩ | ⟨e, e2⟩
        · rw [e]; dsimp only at e2; omega
        · dsimp only at e e2; omega
  · have keep : ∀ y, zw_I nx H y → re' y = re y := by
      intro y hy
      refine (h y (zw_I6 hy)).1 ?_
      intro z
      have hIb := ((hs1 y (zw_I6 hy)).resolve_left z).1
      exact hHb (zw_tpu (zw_tpl htH hy) (zw_tpl ht hIb))
    rcases hsh H w htH with hs | ⟨X, hX, hs⟩
    · exact Or.inl (fun y hy => by dsimp only; rw [keep y hy]; exact hs y hy)
    · exact Or.inr ⟨X, hX, fun y hy => by dsimp only; rw [keep y hy]; exact hs y hy⟩
/-- walks behind a lift: along a forward edge -/
theorem zx_wn {a b : Nat} (hO : zw_O nx m o) (hB : zw_bd bo) (hw : ∀ b, b < 6 → 0 ≤ wt b ∧ wt b ≤ 50) (hBs : ∀ s, Bs s → s < 4374 ∧ zw_L nx (s % 6)) (hBe : ∃ s, Bs s) (hw0 : 0 ≤ w0 ∧ w0 ≤ 50)
    (hf : zw_F nx a b) (hA : A b) {so : Int} (hso : ∀ s, Bs s → ∃ n s' g, zw_W nx bo wt A n s s' g ∧ s' % 6 = a ∧ so = w0 + g) :
    0 ≤ so + wt b ∧ so + wt b ≤ 204800 ∧ ∀ s, Bs s → ∃ n s' g, zw_W nx bo wt A n s s' g ∧ s' % 6 = b ∧ so + wt b = w0 + g := by
  have hall : ∀ s, Bs s → ∃ n s' g, zw_W nx bo wt A n s s' g ∧ s' % 6 = b ∧ so + wt b = w0 + g := by
    intro s hs
    obtain ⟨n, s1, g, h1, h2, h3⟩ := hso s hs
    have hf' : zw_F nx (s1 % 6) b := by rw [h2]; exact hf
    have hb6 := hf.1.2.1
    have hn : zw_g s1 b 0 % 6 = b := zw_gn hb6
    refine ⟨n + 1, zw_g s1 b 0, g + wt b, ⟨s1, g, h1, zw_Sf hB hf', by rw [hn]; exact hA, by rw [hn]⟩, hn, by omega⟩
  obtain ⟨s, hs⟩ := hBe
  obtain ⟨n, s', g, h1, h2, h3⟩ := hall s hs
  have := zw_Wg' hO hB hw (hBs s hs).2 h1
  exact ⟨by omega, by omega, hall⟩
/-- walks behind a lift: into a loop and on in it -/
theorem zx_wl {a b y : Nat} (hO : zw_O nx m o) (hB : zw_bd bo) (hw : ∀ b, b < 6 → 0 ≤ wt b ∧ wt b ≤ 50) (hBs : ∀ s, Bs s → s < 4374 ∧ zw_L nx (s % 6)) (hBe : ∃ s, Bs s) (hw0 : 0 ≤ w0 ∧ w0 ≤ 50)
    (hf : zw_F nx a b) (hA : ∀ y, zw_I nx b y → A y) (hbb : zw_I nx b b) (hs1 : zx_s1 nx bo wt il b) (hy : y < 6) (hil : (il (b * 6 + y)).toInt ≠ -1000000) {so : Int} (hso : ∀ s, Bs s → ∃ n s' g, zw_W nx bo wt A n s s' g ∧ s' % 6 = a ∧ so = w0 + g) :
    0 ≤ so + (il (b * 6 + y)).toInt ∧ so + (il (b * 6 + y)).toInt ≤ 204800 ∧ ∀ s, Bs s → ∃ n s' g, zw_W nx bo wt A n s s' g ∧ s' % 6 = y ∧ so + (il (b * 6 + y)).toInt = w0 + g := by
  have hall : ∀ s, Bs s → ∃ n s' g, zw_W nx bo wt A n s s' g ∧ s' % 6 = y ∧ so + (il (b * 6 + y)).toInt = w0 + g := by
    intro s hs
    obtain ⟨n, s1, g, h1, h2, h3⟩ := (zx_wn hO hB hw hBs hBe hw0 hf (hA b hbb) hso).2.2 s hs
    obtain ⟨n0, s0, g0, k1, k2, k3⟩ := hso s hs
    have hf' : zw_F nx (s0 % 6) b := by rw [k2]; exact hf
    have hb6 := hf.1.2.1
    have hn : zw_g s0 b 0 % 6 = b := zw_gn hb6
    have hst : zw_W nx bo wt A (n0 + 1) s (zw_g s0 b 0) (g0 + wt b) := ⟨s0, g0, k1, zw_Sf hB hf', by rw [hn]; exact hA b hbb, by rw [hn]⟩
    obtain ⟨n2, s2, g2, j1, j2, j3⟩ := ((hs1 y hy).resolve_left hil).2.2.2 (zw_g s0 b 0) (zw_Wl hB hst (hBs s hs).1) hn (zw_gc hb6 (by decide))
    exact ⟨n0 + 1 + n2, s2, g0 + wt b + g2, zw_Wt hst (zw_Wm (fun c _ hc => hA c hc) j1), j2, by omega⟩
  obtain ⟨s, hs⟩ := hBe
  obtain ⟨n, s', g, h1, h2, h3⟩ := hall s hs
  have := zw_Wg' hO hB hw (hBs s hs).2 h1
  exact ⟨by omega, by omega, hall⟩
end
end
section
/-! begin, largestLoop, lift, comeTo, step -/
theorem zw_m6 {k : Nat} (hk : k < 6) : ¬ nI k = -1 := by
  rcases zw_6c hk with rfl | rfl | rfl | rfl | rfl | rfl <;> decide
theorem zw_far {x : Int32} : x ≤ -1000000 ↔ x.toInt ≤ -1000000 := by
  rw [Int32.le_iff_toInt_le, show (-1000000 : Int32).toInt = -1000000 from by decide]
section
variable {kn lv od hc : Int32} {co bo nx dm fw bk lp ow hs we il re : Nat → Int32}
theorem zx_begin {post : SX → Prop} (h : ∀ re', (∀ b, b < 6 → re' b = -1000000) → post (kn, lv, od, hc, co, bo, nx, dm, fw, bk, lp, ow, hs, we, il, re')) : wpX_begin post (kn, lv, od, hc, co, bo, nx, dm, fw, bk, lp, ow, hs, we, il, re) := by
  refine loop_0 (fun n i s => wX_begin_2 post kn lv od hc n (nI i) co bo nx dm fw bk lp ow hs we il s) (fun i s => ∀ b, b < i → s b = -1000000) 6 re (fun b hb => absurd hb (by omega)) ?_ ?_
  · intro n s hI
    exact br_t zw_66 (h s hI)
  · intro n i s hi hI k
    refine br_f (zw_6 hi) ⟨zw_i6 hi, nm_r (e' := upd s i (-1000000)) (by rw [zw_c6 hi]) (nm_r (nI_1 i) (k _ ?_))⟩
    intro b hb
    by_cases hbi : b = i
    · subst hbi; exact pk_us
    · rw [pk_un hbi]; exact hI b (by omega)
theorem zx_largest {post : Int32 → Prop} {Pp : Nat → Prop} {q b c : Nat} {d : Nat → Nat} {P hd : Int32} (hb : b < 6) (hhc : hc = nI c) (hhs : ∀ k, k < c → hs k = nI (d k)) (hH : zw_H nx c d) (hlp : ∀ h, h < 6 → zw_is (lp h) (zw_I nx h))
    (hP : zw_is P Pp) (hq : ∀ k, k < 6 → (nI k = hd ↔ k = q)) (h0 : zw_no nx Pp q b → post (-1)) (h1 : ∀ H, zw_tp nx Pp q H b → post (nI H)) :
    wpX_largestLoop post (kn, lv, od, hc, co, bo, nx, dm, fw, bk, lp, ow, hs, we, il, re) (nI b) P hd := by
  subst hhc
  refine loop_0 (fun n i s => wX_largestLoop_6 post (nI b) P hd kn lv od (nI c) co bo nx dm fw bk lp ow hs we il re n s (nI i))
    (fun i s => (s = -1 ∧ ∀ k, k < i → ¬ zw_cd nx Pp q (d k) b) ∨ (∃ k, k < i ∧ s = nI (d k) ∧ zw_cd nx Pp q (d k) b ∧ ∀ j, k < j → j < i → ¬ zw_cd nx Pp q (d j) b)) c (-1)
    (Or.inl ⟨rfl, fun k hk => absurd hk (by omega)⟩) ?_ ?_
  · intro n s hI
    have hc6 := hH.1
    refine br_t (nI_le (Nat.le_refl c) (by omega)) ?_
    rcases hI with ⟨rfl, hI⟩ | ⟨k, hk, rfl, hI, hj⟩
    · refine h0 (fun K hK => ?_)
      obtain ⟨k, hk, rfl⟩ := hH.2.2.2 K (zw_Ihh hK.1)
      exact hI k hk hK
    · refine h1 _ ⟨hI, fun K hK => ?_⟩
      obtain ⟨j, hjc, rfl⟩ := hH.2.2.2 K (zw_Ihh hK.1)
      have hjk : j ≤ k := Classical.byContradiction fun z => hj j (by omega) hjc hK
      exact zw_zc hK.1 hI.1 (hH.2.2.1 j k hjk hk)
  · intro n i s hi hI k
    have hc6 := hH.1
    have hdi := hH.2.1 i hi
    have hd6 := zw_I6 hdi
    have keep : ¬ zw_cd nx Pp q (d i) b → wX_largestLoop_6 post (nI b) P hd kn lv od (nI c) co bo nx dm fw bk lp ow hs we il re n s (nI (i + 1)) := by
      intro hn
      refine k s ?_
      rcases hI with ⟨hs, hI⟩ | ⟨k, hk, hs, hI, hj⟩
      · refine Or.inl ⟨hs, fun k hk => ?_⟩
        by_cases hki : k = i
        · subst hki; exact hn
        · exact hI k (by omega)
      · refine Or.inr ⟨k, by omega, hs, hI, fun j hkj hji => ?_⟩
        by_cases hjie : j = i
        · subst hjie; exact hn
        · exact hj j hkj (by omega)
    have hsub : (lp (d i) &&& (P ^^^ (-1))) = 0 ↔ ∀ y, zw_I nx (d i) y → Pp y := by
      rw [zw_zero (zw_Sand (hlp _ hd6).1)]
      constructor
      · intro z y hy
        have hy6 := zw_I6 hy
        have hz := z y hy6
        rw [b_and, ((hlp _ hd6).2 y hy6).mpr hy, zw_not (by omega)] at hz
        apply (hP.2 y hy6).mp
        cases hb : bt P y
        · rw [hb] at hz; exact absurd hz (by decide)
        · rfl
      · intro z y hy
        apply zw_tf
        intro hb
        rw [zw_and, zw_not (by omega)] at hb
        rw [(hP.2 y hy).mpr (z y (((hlp _ hd6).2 y hy).mp hb.1))] at hb
        exact absurd hb.2 (by decide)
    refine br_f (nI_ge hi (by omega)) ⟨vp_in_nI (by omega) (by decide), nm_r (e' := nI (d i)) (by rw [nI_clamp (by omega)]; exact hhs i hi) ?_⟩
    refine ek_if (hq _ hd6) (fun hz => nm_r (nI_1 i) (keep (fun z => z.2.1 hz))) (fun hz => ⟨zw_i6 hd6, ?_⟩)
    rw [zw_c6 hd6]
    refine zx_in (by omega) (fun hb0 => nm_r (nI_1 i) (keep (fun z => (zw_isf (hlp _ hd6) hb).mp hb0 z.1))) (fun hb1 => ⟨zw_i6 hd6, ?_⟩)
    refine ek_if hsub (fun hz2 => nm_r (nI_1 i) (k _ (Or.inr ⟨i, by omega, rfl, ⟨((hlp _ hd6).2 b hb).mp hb1, hz, hz2⟩, fun j h1 h2 => absurd h1 (by omega)⟩))) (fun hz2 => nm_r (nI_1 i) (keep (fun z => hz2 z.2.2)))
theorem zx_lift {post : SX → Prop} {b : Nat} {w : Int32} (hb : b < 6)
    (h : ∀ re', (∀ y, y ≠ b → re' y = re y) → ((re' b = re b ∧ w.toInt ≤ (re b).toInt) ∨ ((re' b).toInt = w.toInt ∧ (re b).toInt < w.toInt)) → post (kn, lv, od, hc, co, bo, nx, dm, fw, bk, lp, ow, hs, we, il, re')) :
    wpX_lift post (kn, lv, od, hc, co, bo, nx, dm, fw, bk, lp, ow, hs, we, il, re) (nI b) w := by
  refine ⟨zw_i6 hb, ?_⟩
  rw [zw_c6 hb]
  refine br_c (fun z => h re (fun _ _ => rfl) (Or.inl ⟨rfl, Int32.le_iff_toInt_le.mp z⟩)) (fun z => ⟨zw_i6 hb, nm_e (h _ (fun y hy => pk_un hy) (Or.inr ⟨by rw [pk_us], ?_⟩))⟩)
  have := mt Int32.le_iff_toInt_le.mpr z
  omega
theorem zx_comeTo0 {post : SX → Prop} {b : Nat} {so : Int32} (hb : b < 6) (hov : (so + we b).toInt = so.toInt + (we b).toInt)
    (h : ∀ re', zx_cm re re' (fun y => y = b) (fun _ => so.toInt + (we b).toInt) → post (kn, lv, od, hc, co, bo, nx, dm, fw, bk, lp, ow, hs, we, il, re')) : wpX_comeTo post (kn, lv, od, hc, co, bo, nx, dm, fw, bk, lp, ow, hs, we, il, re) (nI b) (-1) so := by
  refine br_f (by decide) ⟨zw_i6 hb, ?_⟩
  rw [zw_c6 hb]
  refine zx_lift hb (fun re' h1 h2 => h re' (fun y _ => ⟨fun z => h1 y z, fun z => ?_⟩))
  subst z
  rw [← hov]
  exact h2
theorem zx_comeTo1 {post : SX → Prop} {b : Nat} {H : Nat} {so : Int32} (hH : H < 6) (hov : ∀ y, y < 6 → (il (H * 6 + y)).toInt = -1000000 ∨ (0 ≤ (il (H * 6 + y)).toInt ∧ (so + il (H * 6 + y)).toInt = so.toInt + (il (H * 6 + y)).toInt))
    (h : ∀ re', zx_cm re re' (fun y => (il (H * 6 + y)).toInt ≠ -1000000) (fun y => so.toInt + (il (H * 6 + y)).toInt) → post (kn, lv, od, hc, co, bo, nx, dm, fw, bk, lp, ow, hs, we, il, re')) : wpX_comeTo post (kn, lv, od, hc, co, bo, nx, dm, fw, bk, lp, ow, hs, we, il, re) (nI b) (nI H) so := by
  refine br_t (nI_pos' (by omega)) ?_
  refine loop_0 (fun n i s => wX_comeTo_21 post (nI H) so n (nI i) kn lv od hc co bo nx dm fw bk lp ow hs we il s) (fun i s => zx_cm re s (fun y => y < i ∧ (il (H * 6 + y)).toInt ≠ -1000000) (fun y => so.toInt + (il (H * 6 + y)).toInt)) 6 re ?_ ?_ ?_
  · intro y hy
    exact ⟨fun _ => rfl, fun z => absurd z.1 (by omega)⟩
  · intro n s hI
    refine br_t zw_66 (h s ?_)
    intro y hy
    exact ⟨fun z => (hI y hy).1 (fun g => z g.2), fun z => (hI y hy).2 ⟨hy, z⟩⟩
  · intro n i s hi hI k
    have e : nI H * 6 + nI i = nI (H * 6 + i) := by
      rw [show (6 : Int32) = nI 6 from rfl, pk_mul, nI_add]
    have hiv : vp_in (nI (H * 6 + i)) 36 := vp_in_nI (by omega) (by decide)
    have ci : (nI (H * 6 + i)).toNatClampNeg = H * 6 + i := nI_clamp (by omega)
    refine br_f (zw_6 hi) ?_
    rw [e]
    refine ⟨hiv, ?_⟩
    rw [ci]
    refine br_c (fun z => nm_r (nI_1 i) (k s ?_)) (fun z => ⟨hiv, ?_⟩)
    · have hz := zw_far.mp z
      have hfar : (il (H * 6 + i)).toInt = -1000000 := (hov i hi).resolve_right (fun g => by omega)
      intro y hy
      refine ⟨fun g => (hI y hy).1 (fun g2 => g ⟨by omega, g2.2⟩), fun g => (hI y hy).2 ⟨?_, g.2⟩⟩
      have : y ≠ i := fun w => g.2 (by rw [w]; exact hfar)
      omega
    · have hz := mt zw_far.mpr z
      have hnf := (hov i hi).resolve_left (fun g => by omega)
      refine zx_lift hi (fun s' h1 h2 => nm_r (nI_1 i) (k s' ?_))
      intro y hy
      by_cases hyi : y = i
      · subst hyi
        refine ⟨fun g => absurd ⟨by omega, fun w => by omega⟩ g, fun _ => ?_⟩
        rw [hnf.2] at h2
        have hsy : s y = re y := (hI y hy).1 (fun g => absurd g.1 (by omega))
        rw [hsy] at h2
        exact h2
      · rw [h1 y hyi]
        exact ⟨fun g => (hI y hy).1 (fun g2 => g ⟨by omega, g2.2⟩), fun g => (hI y hy).2 ⟨by omega, g.2⟩⟩
theorem zx_step1 {post : SX → Prop} {a : Nat} {b x5 to : Int32} (ha : a < 6) (hx : x5 < 0 ∨ (¬ x5 < 0 ∧ ¬ x5 = to)) (h : wpX_comeTo post (kn, lv, od, hc, co, bo, nx, dm, fw, bk, lp, ow, hs, we, il, re) b to (re a)) : wpX_step post (kn, lv, od, hc, co, bo, nx, dm, fw, bk, lp, ow, hs, we, il, re) (nI a) b x5 to := by
  have h10 : wX_step_10 post (nI a) b to kn lv od hc co bo nx dm fw bk lp ow hs we il re := by
    refine ⟨zw_i6 ha, ?_⟩
    rw [zw_c6 ha]
    exact h
  rcases hx with hx | ⟨hx, hne⟩
  · exact br_t hx h10
  · exact br_f hx (br_f hne h10)
theorem zx_step0 {post : SX → Prop} {a b x5 to : Int32} (hx : ¬ x5 < 0) (he : x5 = to) (h : post (kn, lv, od, hc, co, bo, nx, dm, fw, bk, lp, ow, hs, we, il, re)) : wpX_step post (kn, lv, od, hc, co, bo, nx, dm, fw, bk, lp, ow, hs, we, il, re) a b x5 to :=
  br_f hx (br_t he h)
end
/-! the frame of a pass -/
def zx_kx (nx bo we : Nat → Int32) (od hc : Int32) (fw lp ow hs : Nat → Int32) (m c : Nat) (o d : Nat → Nat) : Prop :=
  od = nI m ∧ hc = nI c ∧ (∀ k, k < m → ow k = nI (o k)) ∧ (∀ k, k < c → hs k = nI (d k)) ∧ zw_O nx m o ∧ zw_H nx c d ∧
  (∀ h, h < 6 → zw_is (lp h) (zw_I nx h)) ∧ (∀ a, a < 6 → zw_is (fw a) (fun b => zw_F nx a b)) ∧ zw_bd bo ∧ zy_wo we
def zx_pp (nx bo we : Nat → Int32) (il : Nat → Int32) (Q Rr : Nat → Int) (Bs A : Nat → Prop) (w0 : Int) (Pp : Nat → Prop) (q : Nat) (P hd : Int32) : Prop :=
  zx_pt nx Pp q A ∧ zw_is P Pp ∧ (∀ k, k < 6 → (nI k = hd ↔ k = q)) ∧ (∀ s, Bs s → s < 4374 ∧ zw_L nx (s % 6)) ∧ (∃ s, Bs s) ∧ (0 ≤ w0 ∧ w0 ≤ 50) ∧
  (∀ K, K ≠ q → (∀ y, zw_I nx K y → Pp y) → zw_I nx K K → zx_sm nx bo (fun b => (we b).toInt) Q Rr il K) ∧ (∀ w, w < 6 → 0 ≤ Q w) ∧ (∀ w, w < 6 → ¬ zw_I nx w w → Q w = 0)
theorem zx_c1m {nx : Nat → Int32} {Pp : Nat → Prop} {q : Nat} {wt : Nat → Int} {il : Nat → Int32} {v v' : Nat → Int} {a b : Nat} (ha : v' a = v a) (hm : ∀ y, y < 6 → v y ≤ v' y) (h : zx_c1 nx Pp q wt il v a b) : zx_c1 nx Pp q wt il v' a b := by
  intro hf pb hn
  have h := h hf pb hn
  have hb6 := hf.1.2.1
  refine ⟨fun z => ?_, fun H ht y hy hl => ?_⟩
  · have := h.1 z
    have := hm b hb6
    omega
  · have := h.2 H ht y hy hl
    have := hm y (zw_I6 hy)
    omega
section
variable {kn lv od hc : Int32} {co bo nx dm fw bk lp ow hs we il re : Nat → Int32} {m c : Nat} {o d : Nat → Nat} {Q Rr : Nat → Int} {Bs A Pp : Nat → Prop} {w0 : Int} {q : Nat} {P hd : Int32}
theorem zx_p52 {post : SX → Prop} {J2 : Int32 → Int32 → Int32 → Int32 → Int32 → (Nat → Int32) → (Nat → Int32) → (Nat → Int32) → (Nat → Int32) → (Nat → Int32) → (Nat → Int32) → (Nat → Int32) → (Nat → Int32) → (Nat → Int32) → (Nat → Int32) → (Nat → Int32) → (Nat → Int32) → Prop} {k : Nat} {x5 : Int32}
    (K : zx_kx nx bo we od hc fw lp ow hs m c o d) (PP : zx_pp nx bo we il Q Rr Bs A w0 Pp q P hd) (hk : k < m) (pa : Pp (o k)) (va : (re (o k)).toInt ≠ -1000000)
    (hx5 : (x5 = -1 ∧ zw_no nx Pp q (o k)) ∨ (∃ H, x5 = nI H ∧ zw_tp nx Pp q H (o k)))
    (hR : zx_R nx bo (fun b => (we b).toInt) Bs A w0 Pp re) (hsh : zx_sh nx Pp q il (fun y => (re y).toInt))
    (hJ : ∀ re', zx_R nx bo (fun b => (we b).toInt) Bs A w0 Pp re' → zx_sh nx Pp q il (fun y => (re' y).toInt) → (∀ y, y < 6 → (re y).toInt ≤ (re' y).toInt) → (∀ j, j ≤ k → re' (o j) = re (o j)) →
      (∀ b, zx_c1 nx Pp q (fun b => (we b).toInt) il (fun y => (re' y).toInt) (o k) b) → J2 (nI k + 1) kn lv od hc co bo nx dm fw bk lp ow hs we il re') :
    ∃ n, wX_pass_52 post J2 P hd (nI k) (nI (o k)) x5 n 0 kn lv od hc co bo nx dm fw bk lp ow hs we il re := by
  obtain ⟨hod, hhc, how, hhs, hO, hH, hlp, hfw, hB, hwo⟩ := K
  obtain ⟨hpt, hP, hq, hBs, hBe, hw0, hS, hQ, hz⟩ := PP
  have ha6 := (hO.2.1 k hk).1
  refine loop_0 (fun n i s => wX_pass_52 post J2 P hd (nI k) (nI (o k)) x5 n (nI i) kn lv od hc co bo nx dm fw bk lp ow hs we il s)
    (fun i s => zx_R nx bo (fun b => (we b).toInt) Bs A w0 Pp s ∧ zx_sh nx Pp q il (fun y => (s y).toInt) ∧ (∀ y, y < 6 → (re y).toInt ≤ (s y).toInt) ∧ (∀ j, j ≤ k → s (o j) = re (o j)) ∧ ∀ b, b < i → zx_c1 nx Pp q (fun b => (we b).toInt) il (fun y => (s y).toInt) (o k) b) 6 re
    ⟨hR, hsh, fun _ _ => Int.le_refl _, fun _ _ => rfl, fun b hb => absurd hb (by omega)⟩ ?_ ?_
  · intro n s hI
    refine br_t zw_66 (nm_e (hJ s hI.1 hI.2.1 hI.2.2.1 hI.2.2.2.1 (fun b hf => hI.2.2.2.2 b hf.1.2.1 hf)))
  · rintro n i s hi ⟨h1, h2, h3, h4, h5⟩ kk
    have keep : (¬ (zw_F nx (o k) i ∧ Pp i ∧ ¬ ∃ H, zw_tp nx Pp q H (o k) ∧ zw_tp nx Pp q H i)) → wX_pass_52 post J2 P hd (nI k) (nI (o k)) x5 n (nI (i + 1)) kn lv od hc co bo nx dm fw bk lp ow hs we il s := by
      intro hn
      refine kk s ⟨h1, h2, h3, h4, fun b hb => ?_⟩
      by_cases hbi : b = i
      · subst hbi
        intro hf pb hc
        exact absurd ⟨hf, pb, hc⟩ hn
      · exact h5 b (by omega)
    refine br_f (zw_6 hi) ⟨zw_i6 ha6, ?_⟩
    rw [zw_c6 ha6]
    refine zx_in (by omega) (fun hb => nm_r (nI_1 i) (keep (fun z => ?_))) (fun hb => ?_)
    · rw [b_and, ((hfw _ ha6).2 i hi).mpr z.1, (hP.2 i hi).mpr z.2.1] at hb
      exact absurd hb (by decide)
    have hf : zw_F nx (o k) i := ((hfw _ ha6).2 i hi).mp (zw_and.mp hb).1
    have pb : Pp i := (hP.2 i hi).mp (zw_and.mp hb).2
    have hsk : s (o k) = re (o k) := h4 k (Nat.le_refl k)
    have hva := (hR (o k) ha6).resolve_left va
    have hwi := hwo i hi
    have hpos : ∀ j, j ≤ k → o j ≠ i := by
      intro j hj z
      have hf' : zw_F nx (o k) (o j) := by rw [z]; exact hf
      obtain ⟨j2, hj2, e2⟩ := hO.2.2.2.1 j _ (by omega) hf'
      have := hO.2.2.1 j2 k (by omega) hk e2
      omega
    -- one way on: a new table
    have go : ∀ s' (D : Nat → Prop) (v : Nat → Int), zx_cm s s' D v → zx_R nx bo (fun b => (we b).toInt) Bs A w0 Pp s' → zx_sh nx Pp q il (fun y => (s' y).toInt) → (∀ j, j ≤ k → ¬ D (o j)) →
        ((zw_no nx Pp q i → (re (o k)).toInt + (we i).toInt ≤ (s' i).toInt) ∧ (∀ H, zw_tp nx Pp q H i → ∀ y, zw_I nx H y → (il (H * 6 + y)).toInt ≠ -1000000 → (re (o k)).toInt + (il (H * 6 + y)).toInt ≤ (s' y).toInt)) →
        wX_pass_52 post J2 P hd (nI k) (nI (o k)) x5 n (nI (i + 1)) kn lv od hc co bo nx dm fw bk lp ow hs we il s' := by
      intro s' D v hcm hR' hsh' hD hcl
      have hk4 : ∀ j, j ≤ k → s' (o j) = re (o j) := by
        intro j hj
        rw [(hcm (o j) (hO.2.1 j (by omega)).1).1 (hD j hj)]
        exact h4 j hj
      refine kk s' ⟨hR', hsh', fun y hy => Int.le_trans (h3 y hy) (zx_cmm hcm hy), hk4, fun b hb => ?_⟩
      by_cases hbi : b = i
      · subst hbi
        intro _ _ _
        dsimp only
        rw [hk4 k (Nat.le_refl k)]
        exact hcl
      · refine zx_c1m ?_ (fun y hy => zx_cmm hcm hy) (h5 b (by omega))
        show (s' (o k)).toInt = (s (o k)).toInt
        rw [hk4 k (Nat.le_refl k), hsk]
    refine zx_largest hi hhc hhs hH hlp hP hq (fun hno => ?_) (fun H ht => ?_)
    · -- no loop at the end of the edge
      have hx : x5 < 0 ∨ (¬ x5 < 0 ∧ ¬ x5 = -1) := by
        rcases hx5 with ⟨rfl, _⟩ | ⟨H, rfl, hH2⟩
        · exact Or.inl (by decide)
        · have h6 := zw_Ih6 hH2.1.1
          exact Or.inr ⟨nI_pos (by omega), zw_m6 h6⟩
      refine zx_step1 ha6 hx ?_
      rw [hsk]
      have hAb := (hpt.1 _ i hf pa pb).1
      have hwk := zx_wn hO hB hwo hBs hBe hw0 hf hAb hva.2.2.2
      refine zx_comeTo0 hi (zw_add32 hva.2.1 hwi.1 (by omega)) (fun s' hcm => nm_r (nI_1 i) (go s' _ _ hcm ?_ (zx_shn hno hcm h2) hpos ⟨fun _ => zx_cmg hcm hi rfl, fun H ht => absurd ht.1 (hno H)⟩))
      refine zx_cmR hcm h1 (fun y hy hd => ?_)
      subst hd
      exact ⟨pb, hwk⟩
    · by_cases hsame : zw_tp nx Pp q H (o k)
      · have hx : x5 = nI H := by
          rcases hx5 with ⟨_, hno⟩ | ⟨H', hx, hH'⟩
          · exact absurd hsame.1 (hno H)
          · rw [hx, zw_tpu hH' hsame]
        have h6 := zw_Ih6 ht.1.1
        refine zx_step0 (by rw [hx]; exact nI_pos (by omega)) hx (nm_r (nI_1 i) (keep (fun z => z.2.2 ⟨H, hsame, ht⟩)))
      · have hHi : H = i := zw_tpb hf ht hsame
        subst hHi
        have hx : x5 < 0 ∨ (¬ x5 < 0 ∧ ¬ x5 = nI H) := by
          rcases hx5 with ⟨rfl, _⟩ | ⟨H', rfl, hH'⟩
          · exact Or.inl (by decide)
          · have h6 := zw_Ih6 hH'.1.1
            refine Or.inr ⟨nI_pos (by omega), fun z => ?_⟩
            rw [nI_eq (by omega) (by omega)] at z
            exact hsame (z ▸ hH')
        refine zx_step1 ha6 hx ?_
        rw [hsk]
        have hs := hS H ht.1.2.1 ht.1.2.2 ht.1.1
        have hAy : ∀ y, zw_I nx H y → A y := fun y hy => hpt.2.1 H y ht.1.2.1 ht.1.2.2 hy
        have hov : ∀ y, y < 6 → (il (H * 6 + y)).toInt = -1000000 ∨ (0 ≤ (il (H * 6 + y)).toInt ∧ (re (o k) + il (H * 6 + y)).toInt = (re (o k)).toInt + (il (H * 6 + y)).toInt) := by
          intro y hy
          rcases hs.1 y hy with h | h
          · exact Or.inl h
          · exact Or.inr ⟨h.2.1, zw_add32 hva.2.1 h.2.1 (by omega)⟩
        refine zx_comeTo1 hi hov (fun s' hcm => nm_r (nI_1 H) (go s' _ _ hcm ?_ (zx_shl ht hva.2.1 hs.1 hcm h2) ?_ ⟨fun hno => absurd ht.1 (hno H), fun H2 ht2 y hy hl => ?_⟩))
        · refine zx_cmR hcm h1 (fun y hy hd => ?_)
          have hIy := ((hs.1 y hy).resolve_left hd).1
          exact ⟨ht.1.2.2 y hIy, zx_wl hO hB hwo hBs hBe hw0 hf hAy ht.1.1 hs.1 hy hd hva.2.2.2⟩
        · intro j hj hd
          have hj6 := (hO.2.1 j (by omega)).1
          have hIy := ((hs.1 _ hj6).resolve_left hd).1
          obtain ⟨j2, hj2, e2⟩ := zw_OD hO j (by omega) (zw_ID hIy)
          exact hpos j2 (by omega) e2
        · have := zw_tpu ht2 ht
          subst this
          exact zx_cmg hcm (zw_I6 hy) hl
theorem zx_pass {post : SX → Prop} (K : zx_kx nx bo we od hc fw lp ow hs m c o d) (PP : zx_pp nx bo we il Q Rr Bs A w0 Pp q P hd)
    (hR : zx_R nx bo (fun b => (we b).toInt) Bs A w0 Pp re) (hsh : zx_sh nx Pp q il (fun y => (re y).toInt))
    (h : ∀ re', zx_R nx bo (fun b => (we b).toInt) Bs A w0 Pp re' → (∀ y, y < 6 → (re y).toInt ≤ (re' y).toInt) → zx_fb nx (fun b => (we b).toInt) Q Rr (fun y => (re' y).toInt) Pp q → post (kn, lv, od, hc, co, bo, nx, dm, fw, bk, lp, ow, hs, we, il, re')) :
    wpX_pass post (kn, lv, od, hc, co, bo, nx, dm, fw, bk, lp, ow, hs, we, il, re) P hd := by
  have K' := K
  have PP' := PP
  obtain ⟨hod, hhc, how, hhs, hO, hH, hlp, hfw, hB, hwo⟩ := K'
  obtain ⟨hpt, hP, hq, hBs, hBe, hw0, hS, hQ, hz⟩ := PP'
  have hm6 := hO.1
  refine loop_0 (fun n i s => wX_pass_2 post P hd n (nI i) kn lv od hc co bo nx dm fw bk lp ow hs we il s)
    (fun i s => zx_R nx bo (fun b => (we b).toInt) Bs A w0 Pp s ∧ zx_sh nx Pp q il (fun y => (s y).toInt) ∧ (∀ y, y < 6 → (re y).toInt ≤ (s y).toInt) ∧ ∀ j, j < i → j < m → Pp (o j) → (s (o j)).toInt ≠ -1000000 → ∀ b, zx_c1 nx Pp q (fun b => (we b).toInt) il (fun y => (s y).toInt) (o j) b) m re
    ⟨hR, hsh, fun _ _ => Int.le_refl _, fun j hj => absurd hj (by omega)⟩ ?_ ?_
  · rintro n s ⟨h1, h2, h3, h4⟩
    refine br_t (by rw [hod]; exact nI_le (Nat.le_refl m) (by omega)) (h s h1 h3 ?_)
    refine zx_fin hpt (fun b hb => (hwo b hb).1) hQ hz h1 h2 (fun a b pa va => ?_) hS
    obtain ⟨j, hj, rfl⟩ := hO.2.2.2.2 a (hpt.2.2.2 a pa)
    exact h4 j hj hj pa va b
  · rintro n i s hi ⟨h1, h2, h3, h4⟩ k
    have hi6 : i < 6 := by omega
    have ha6 := (hO.2.1 i hi).1
    refine br_f (by rw [hod]; exact nI_ge hi (by omega)) ⟨zw_i6 hi6, nm_r (e' := nI (o i)) (by rw [zw_c6 hi6]; exact how i hi) ?_⟩
    have skip : (¬ (Pp (o i) ∧ (s (o i)).toInt ≠ -1000000)) → wX_pass_2 post P hd n (nI (i + 1)) kn lv od hc co bo nx dm fw bk lp ow hs we il s := by
      intro hn
      refine k s ⟨h1, h2, h3, fun j hj hjm pj vj => ?_⟩
      by_cases hji : j = i
      · subst hji; exact absurd ⟨pj, vj⟩ hn
      · exact h4 j (by omega) hjm pj vj
    refine zx_in (by omega) (fun hb => nm_r (nI_1 i) (skip (fun z => (zw_isf hP ha6).mp hb z.1))) (fun hb => ⟨zw_i6 ha6, ?_⟩)
    rw [zw_c6 ha6]
    have pa : Pp (o i) := (hP.2 _ ha6).mp hb
    refine br_c (fun z => nm_r (nI_1 i) (skip (fun g => ?_))) (fun z => ?_)
    · have hz := zw_far.mp z
      have := ((h1 _ ha6).resolve_left g.2).2.1
      omega
    have va : (s (o i)).toInt ≠ -1000000 := by
      have := mt zw_far.mpr z
      omega
    have next : ∀ x5, ((x5 = -1 ∧ zw_no nx Pp q (o i)) ∨ (∃ H, x5 = nI H ∧ zw_tp nx Pp q H (o i))) → ∃ n52, wX_pass_52 post (wX_pass_2 post P hd n) P hd (nI i) (nI (o i)) x5 n52 0 kn lv od hc co bo nx dm fw bk lp ow hs we il s := by
      intro x5 hx5
      refine zx_p52 K PP hi pa va hx5 h1 h2 ?_
      intro s' g1 g2 g3 g4 g5
      rw [nI_1]
      refine k s' ⟨g1, g2, fun y hy => Int.le_trans (h3 y hy) (g3 y hy), fun j hj hjm pj vj b => ?_⟩
      by_cases hji : j = i
      · subst hji; exact g5 b
      · refine zx_c1m ?_ g3 (h4 j (by omega) hjm pj ?_ b)
        · show (s' (o j)).toInt = (s (o j)).toInt
          rw [g4 j (by omega)]
        · rw [← g4 j (by omega)]; exact vj
    exact zx_largest ha6 hhc hhs hH hlp hP hq (fun hno => next (-1) (Or.inl ⟨rfl, hno⟩)) (fun H ht => next (nI H) (Or.inr ⟨H, rfl, ht⟩))
end
end
section
/-! sumUp -/
def zx_u (f : Nat → Int) (h : Nat) (x : Int) : Nat → Int := fun w => if w = h then x else f w
theorem zx_us {f : Nat → Int} {h : Nat} {x : Int} : zx_u f h x h = x := if_pos rfl
theorem zx_un {f : Nat → Int} {h w : Nat} {x : Int} (hw : w ≠ h) : zx_u f h x w = f w := if_neg hw
theorem zw_mul32 {x y : Int32} (hx : 0 ≤ x.toInt ∧ x.toInt ≤ 2) (hy : 0 ≤ y.toInt ∧ y.toInt ≤ 300000) : (x * y).toInt = x.toInt * y.toInt := by
  rw [Int32.toInt_mul]
  have : x.toInt = 0 ∨ x.toInt = 1 ∨ x.toInt = 2 := by omega
  rcases this with h | h | h <;> rw [h] <;> exact Int.bmod_eq_of_le (by omega) (by omega)
theorem zw_sub1 {x : Int32} (hx : 1 ≤ x.toInt ∧ x.toInt ≤ 3) : (x - 1).toInt = x.toInt - 1 := by
  rw [Int32.toInt_sub, show (1 : Int32).toInt = 1 from by decide]
  exact Int.bmod_eq_of_le (by omega) (by omega)
theorem zw_c0 (h : Nat) (hh : h < 6) : zw_c h h = 0 := by
  unfold zw_c
  rw [show h / 6 = 0 by omega]
  rw [Nat.zero_div]
theorem zx_smc {nx bo : Nat → Int32} {wt Q Rr Q' Rr' : Nat → Int} {il il' : Nat → Int32} {H : Nat} (h : zx_sm nx bo wt Q Rr il H) (hQ : ∀ w, zw_I nx H w → Q' w = Q w ∧ Rr' w = Rr w) (hh : zw_I nx H H) (hil : ∀ y, y < 6 → il' (H * 6 + y) = il (H * 6 + y)) : zx_sm nx bo wt Q' Rr' il' H := by
  obtain ⟨h1, ⟨h2, h3⟩, h4, h5⟩ := h
  have hH := zw_I6 hh
  refine ⟨?_, ⟨?_, ?_⟩, ?_, ?_⟩
  · intro y hy
    rw [hil y hy]
    exact h1 y hy
  · intro a b hf ha hb hva
    dsimp only at hva ⊢
    rw [hil a hf.1.1] at hva ⊢
    rw [hil b hf.1.2.1, (hQ b hb).1]
    exact h2 a b hf ha hb hva
  · intro a b hf ha hb hb6 hva
    dsimp only at hva ⊢
    rw [hil a hf.1.1] at hva ⊢
    rw [hil b hf.1.2.1, (hQ b hb).2]
    exact h3 a b hf ha hb hb6 hva
  · rw [hil H hH]; exact h4
  · rw [hil H hH, (hQ H hh).1]; exact h5
/-- rounds of a loop -/
theorem zx_rounds {nx bo : Nat → Int32} {wt : Nat → Int} {re : Nat → Int32} {h a : Nat} (hB : zw_bd bo) (hh : h < 6) (hIh : zw_I nx h h)
    (hb : zw_B nx a h) {rd : Int} (hra : (re a).toInt = rd) (hR : ∀ s, (s < 4374 ∧ s % 6 = h) → ∃ n s' g, zw_W nx bo wt (fun y => zw_I nx h y ∧ y ≠ h) n s s' g ∧ s' % 6 = a ∧ (re a).toInt = wt h + g)
    {s : Nat} (hs : s < 4374) (hsh : s % 6 = h) (hc : zw_c s h = 0) : ∀ t : Nat, (t : Int) < (bo h).toInt → ∃ n s', zw_W nx bo wt (zw_I nx h) n s s' ((t : Int) * rd) ∧ s' % 6 = h ∧ zw_c s' h = t := by
  intro t
  induction t with
  | zero =>
    intro _
    exact ⟨0, s, ⟨rfl, by omega⟩, hsh, hc⟩
  | succ t ih =>
    intro ht
    obtain ⟨n, s1, h1, h2, h3⟩ := ih (by omega)
    have hs1 := zw_Wl hB h1 hs
    obtain ⟨n2, s2, g, j1, j2, j3⟩ := hR s1 ⟨hs1, h2⟩
    have hc2 : zw_c s2 h = t := by
      rw [zw_Wc hB j1 hh (fun z => z.2 rfl), h3]
    have hb2 : zw_B nx (s2 % 6) h := by rw [j2]; exact hb
    have hst : zw_St nx bo s2 (zw_g s2 h (zw_c s2 h + 1)) := zw_Sb hb2 (by rw [hc2]; exact ht)
    have hn : zw_g s2 h (zw_c s2 h + 1) % 6 = h := zw_gn hh
    have ht3 := zw_t3 hB hh ht
    have j1' : zw_W nx bo wt (zw_I nx h) n2 s1 s2 g := zw_Wm (fun c _ z => z.1) j1
    have hw := zw_Wt (zw_Wt h1 j1') (zw_W1 (wt := wt) (A := zw_I nx h) hst (by rw [hn]; exact hIh))
    refine ⟨n + n2 + 1, _, ?_, hn, ?_⟩
    · have e : (t : Int) * rd + g + wt (zw_g s2 h (zw_c s2 h + 1) % 6) = ((t + 1 : Nat) : Int) * rd := by
        rw [hn]
        have : ((t + 1 : Nat) : Int) * rd = (t : Int) * rd + rd := by
          rw [Int.natCast_add, Int.add_mul]; omega
        rw [this]
        omega
      rw [e] at hw
      exact hw
    · rw [hc2]
      exact zw_gc hh ht3
theorem zx_ptl {nx : Nat → Int32} {h : Nat} : zx_pt nx (zw_I nx h) h (fun y => zw_I nx h y ∧ y ≠ h) := by
  refine ⟨fun a b hf pa pb => ?_, fun K y hK hs hy => ⟨hs y hy, fun z => ?_⟩, fun K hK pK hn => zw_In pK hn, fun y hy => zw_IL hy⟩
  · have : b ≠ h := fun z => zw_IF hf (z ▸ pa)
    exact ⟨⟨pb, this⟩, this⟩
  · subst z
    exact hK (zw_Da (zw_ID hy) (zw_ID (hs K (zw_Ihh hy))))
section
variable {kn lv od hc : Int32} {co bo nx dm fw bk lp ow hs we il re : Nat → Int32} {m c : Nat} {o d : Nat → Nat} {Q Rr : Nat → Int}
theorem zx_su75 {post : SX → Prop} {h : Nat} {x2 : Int32} (hh : h < 6) (hbo : 1 ≤ (bo h).toInt ∧ (bo h).toInt ≤ 3) (hx2 : 0 ≤ x2.toInt ∧ x2.toInt ≤ 204800)
    (hre : ∀ y, y < 6 → (re y).toInt = -1000000 ∨ (0 ≤ (re y).toInt ∧ (re y).toInt ≤ 204800))
    (hp : ∀ il', (∀ j, ¬ (h * 6 ≤ j ∧ j < h * 6 + 6) → il' j = il j) → (∀ y, y < 6 → ((re y).toInt = -1000000 → (il' (h * 6 + y)).toInt = -1000000) ∧ ((re y).toInt ≠ -1000000 → (il' (h * 6 + y)).toInt = (re y).toInt + ((bo h).toInt - 1) * x2.toInt)) → post (kn, lv, od, hc, co, bo, nx, dm, fw, bk, lp, ow, hs, we, il', re)) :
    ∃ n, wX_sumUp_75 post (nI h) x2 kn lv od hc n 0 co bo nx dm fw bk lp ow hs we il re := by
  refine loop_0 (fun n i s => wX_sumUp_75 post (nI h) x2 kn lv od hc n (nI i) co bo nx dm fw bk lp ow hs we s re)
    (fun i s => (∀ j, ¬ (h * 6 ≤ j ∧ j < h * 6 + 6) → s j = il j) ∧ ∀ y, y < i → ((re y).toInt = -1000000 → (s (h * 6 + y)).toInt = -1000000) ∧ ((re y).toInt ≠ -1000000 → (s (h * 6 + y)).toInt = (re y).toInt + ((bo h).toInt - 1) * x2.toInt)) 6 il
    ⟨fun _ _ => rfl, fun y hy => absurd hy (by omega)⟩ ?_ ?_
  · intro n s hI
    exact br_t zw_66 (hp s hI.1 hI.2)
  · intro n i s hi hI k
    have e : nI h * 6 + nI i = nI (h * 6 + i) := by
      rw [show (6 : Int32) = nI 6 from rfl, pk_mul, nI_add]
    have hiv : vp_in (nI (h * 6 + i)) 36 := vp_in_nI (by omega) (by decide)
    have ci : (nI (h * 6 + i)).toNatClampNeg = h * 6 + i := nI_clamp (by omega)
    have step : ∀ w : Int32, ((re i).toInt = -1000000 → w.toInt = -1000000) → ((re i).toInt ≠ -1000000 → w.toInt = (re i).toInt + ((bo h).toInt - 1) * x2.toInt) →
        wX_sumUp_75 post (nI h) x2 kn lv od hc n (nI (i + 1)) co bo nx dm fw bk lp ow hs we (upd s (h * 6 + i) w) re := by
      intro w h1 h2
      refine k _ ⟨fun j hj => ?_, fun y hy => ?_⟩
      · rw [pk_un (by omega)]; exact hI.1 j hj
      · by_cases hyi : y = i
        · subst hyi; rw [pk_us]; exact ⟨h1, h2⟩
        · rw [pk_un (by omega)]; exact hI.2 y (by omega)
    refine br_f (zw_6 hi) ⟨zw_i6 hi, ?_⟩
    rw [zw_c6 hi, e]
    refine br_c (fun z => ⟨hiv, nm_r (e' := upd s (h * 6 + i) (-1000000)) (by rw [ci]) (nm_r (nI_1 i) (step _ (fun _ => by decide) (fun g => ?_)))⟩) (fun z => ⟨zw_i6 hi, zw_i6 hh, hiv, nm_r (e' := upd s (h * 6 + i) (re i + (bo h - 1) * x2)) (by rw [ci, zw_c6 hh]) (nm_r (nI_1 i) (step _ (fun g => ?_) (fun g => ?_)))⟩)
    · have := zw_far.mp z
      have := (hre i hi).resolve_left g
      omega
    · exact absurd (zw_far.mpr (by omega)) z
    · have hr := (hre i hi).resolve_left g
      have e1 := zw_sub1 hbo
      have e2 : ((bo h - 1) * x2).toInt = ((bo h).toInt - 1) * x2.toInt := by
        rw [zw_mul32 (by omega) (by omega), e1]
      have hb : 0 ≤ ((bo h).toInt - 1) * x2.toInt ∧ ((bo h).toInt - 1) * x2.toInt ≤ 409600 := by
        have : (bo h).toInt = 1 ∨ (bo h).toInt = 2 ∨ (bo h).toInt = 3 := by omega
        rcases this with w | w | w <;> rw [w] <;> omega
      rw [zw_add32 hr.1 (by rw [e2]; exact hb.1) (by rw [e2]; omega), e2]
theorem zx_sumUp {post : SX → Prop} {h : Nat} (K : zx_kx nx bo we od hc fw lp ow hs m c o d) (hbk : ∀ h, h < 6 → zw_is (bk h) (fun a => zw_B nx a h)) (hh : zw_I nx h h)
    (hS : ∀ K, K ≠ h → (∀ y, zw_I nx K y → zw_I nx h y) → zw_I nx K K → zx_sm nx bo (fun b => (we b).toInt) Q Rr il K) (hQ : ∀ w, w < 6 → 0 ≤ Q w) (hz : ∀ w, w < 6 → ¬ zw_I nx w w → Q w = 0)
    (hp : ∀ re' il' rd, 0 ≤ rd → (∀ j, ¬ (h * 6 ≤ j ∧ j < h * 6 + 6) → il' j = il j) → zx_sm nx bo (fun b => (we b).toInt) (zx_u Q h (((bo h).toInt - 1) * rd)) (zx_u Rr h rd) il' h → post (kn, lv, od, hc, co, bo, nx, dm, fw, bk, lp, ow, hs, we, il', re')) :
    wpX_sumUp post (kn, lv, od, hc, co, bo, nx, dm, fw, bk, lp, ow, hs, we, il, re) (nI h) := by
  have K' := K
  obtain ⟨hod, hhc, how, hhs, hO, hH, hlp, hfw, hB, hwo⟩ := K'
  have hh6 := zw_I6 hh
  have hwh := hwo h hh6
  have hLh := zw_IL hh
  have hbh := hB h hh6
  unfold wpX_sumUp
  refine zx_begin ?_
  intro re0 hre0
  refine ⟨zw_i6 hh6, zw_i6 hh6, nm_r (e' := upd re0 h (we h)) (by rw [zw_c6 hh6]) ⟨zw_i6 hh6, ?_⟩⟩
  rw [zw_c6 hh6]
  have PP : zx_pp nx bo we il Q Rr (fun s => s < 4374 ∧ s % 6 = h) (fun y => zw_I nx h y ∧ y ≠ h) (we h).toInt (zw_I nx h) h (lp h) (nI h) := by
    refine ⟨zx_ptl, hlp h hh6, fun k hk => nI_eq (by omega) (by omega), fun s hs => ⟨hs.1, by rw [hs.2]; exact hLh⟩, ⟨h, by omega, by omega⟩, hwh, hS, hQ, hz⟩
  have hf0 : (-1000000 : Int32).toInt = -1000000 := by decide
  refine zx_pass K PP ?_ ?_ ?_
  · intro b hb
    by_cases hbh : b = h
    · subst hbh
      rw [pk_us]
      exact Or.inr ⟨hh, hwh.1, by omega, fun s hs => ⟨0, s, 0, ⟨rfl, rfl⟩, hs.2, by omega⟩⟩
    · rw [pk_un hbh, hre0 b hb]
      exact Or.inl hf0
  · intro H w ht
    refine Or.inl (fun y hy => ?_)
    have hyh : y ≠ h := (zx_ptl.2.1 H y ht.1.2.1 ht.1.2.2 hy).2
    show (upd re0 h (we h) y).toInt = -1000000
    rw [pk_un hyh, hre0 y (zw_I6 hy)]
    exact hf0
  · intro re1 hR hmono hfb
    have hreh : (we h).toInt ≤ (re1 h).toInt := by
      have := hmono h hh6
      rw [pk_us] at this
      exact this
    have hval : ∀ y, y < 6 → (re1 y).toInt = -1000000 ∨ (0 ≤ (re1 y).toInt ∧ (re1 y).toInt ≤ 204800) := fun y hy => (hR y hy).elim Or.inl (fun z => Or.inr ⟨z.2.1, z.2.2.1⟩)
    refine loop_0 (fun n i s => wX_sumUp_31 post (nI h) kn lv od hc co bo nx dm fw bk lp ow hs we il re1 n s (nI i))
      (fun i s => 0 ≤ s.toInt ∧ s.toInt ≤ 204800 ∧ (∀ a, a < i → zw_B nx a h → (re1 a).toInt ≤ s.toInt) ∧ (s.toInt = 0 ∨ ∃ a, zw_B nx a h ∧ (re1 a).toInt = s.toInt)) 6 0
      ⟨by decide, by decide, fun a ha => absurd ha (by omega), Or.inl (by decide)⟩ ?_ ?_
    · rintro n s ⟨h1, h2, h3, h4⟩
      refine br_t zw_66 (zx_su75 hh6 hbh ⟨h1, h2⟩ hval ?_)
      intro il' hil1 hil2
      refine hp re1 il' s.toInt h1 hil1 ?_
      have hilh := (hil2 h hh6).2 (by omega)
      have hmul : 0 ≤ ((bo h).toInt - 1) * s.toInt := Int.mul_nonneg (by omega) h1
      refine ⟨?_, ⟨?_, ?_⟩, by omega, ?_⟩
      · intro y hy
        rcases hR y hy with hfar | ⟨hIy, hy0, hy1, hyw⟩
        · exact Or.inl ((hil2 y hy).1 hfar)
        · have hily := (hil2 y hy).2 (by omega)
          have hwalk : ∀ s0, s0 < 4374 → s0 % 6 = h → zw_c s0 h = 0 → ∃ n s' g, zw_W nx bo (fun b => (we b).toInt) (zw_I nx h) n s0 s' g ∧ s' % 6 = y ∧ (il' (h * 6 + y)).toInt = (we h).toInt + g := by
            intro s0 hs0 hsh hsc
            rcases h4 with h4 | ⟨a, hBa, hra⟩
            · obtain ⟨n, s', g, j1, j2, j3⟩ := hyw s0 ⟨hs0, hsh⟩
              refine ⟨n, s', g, zw_Wm (fun c _ z => z.1) j1, j2, ?_⟩
              rw [hily, h4, Int.mul_zero]
              omega
            · have ha := (hR a hBa.1.1).resolve_left (by omega)
              obtain ⟨n, s1, i1, i2, i3⟩ := zx_rounds (rd := s.toInt) hB hh6 hh hBa hra ha.2.2.2 hs0 hsh hsc ((bo h).toInt - 1).toNat (by omega)
              obtain ⟨n2, s2, g, j1, j2, j3⟩ := hyw s1 ⟨zw_Wl hB i1 hs0, i2⟩
              refine ⟨_, s2, _, zw_Wt i1 (zw_Wm (fun c _ z => z.1) j1), j2, ?_⟩
              rw [hily, show (((bo h).toInt - 1).toNat : Int) = (bo h).toInt - 1 by omega]
              omega
          refine Or.inr ⟨hIy, by omega, ?_, hwalk⟩
          obtain ⟨n, s', g, j1, j2, j3⟩ := hwalk h (by omega) (by omega) (zw_c0 h hh6)
          have := zw_Wg' hO hB hwo (s := h) (by rw [show h % 6 = h by omega]; exact hLh) j1
          omega
      · intro a b hf pa pb va
        dsimp only at va ⊢
        have hbh : b ≠ h := fun z => zw_IF hf (z ▸ pa)
        have hva : (re1 a).toInt ≠ -1000000 := fun z => va ((hil2 a hf.1.1).1 z)
        have h5 := hfb.1 a b hf pa pb hva
        dsimp only at h5
        have h6 := (hil2 a hf.1.1).2 hva
        have h7 := (hil2 b hf.1.2.1).2 h5.1
        have h8 := (hval b hf.1.2.1).resolve_left h5.1
        rw [zx_un hbh]
        omega
      · intro a b hf pa pb _ va
        dsimp only at va ⊢
        have hva : (re1 a).toInt ≠ -1000000 := fun z => va ((hil2 a hf.1.1).1 z)
        have h6 := (hil2 a hf.1.1).2 hva
        by_cases hbh : b = h
        · subst hbh
          have h9 := h3 a hf.1.1 hf
          rw [zx_us]
          omega
        · have h5 := hfb.2 a b hf pa pb hbh hva
          dsimp only at h5
          have h7 := (hil2 b hf.1.2.1).2 h5.1
          have h8 := (hval b hf.1.2.1).resolve_left h5.1
          rw [zx_un hbh]
          omega
      · rw [zx_us]
        dsimp only
        omega
    · rintro n i s hi ⟨h1, h2, h3, h4⟩ k
      refine br_f (zw_6 hi) ⟨zw_i6 hh6, ?_⟩
      rw [zw_c6 hh6]
      have keep : (zw_B nx i h → (re1 i).toInt ≤ s.toInt) → wX_sumUp_31 post (nI h) kn lv od hc co bo nx dm fw bk lp ow hs we il re1 n s (nI (i + 1)) := by
        intro hk
        refine k s ⟨h1, h2, fun a ha hBa => ?_, h4⟩
        by_cases hai : a = i
        · subst hai; exact hk hBa
        · exact h3 a (by omega) hBa
      refine zx_in (by omega) (fun hb => nm_r (nI_1 i) (keep (fun z => absurd z ((zw_isf (hbk h hh6) hi).mp hb)))) (fun hb => ⟨zw_i6 hi, ?_⟩)
      rw [zw_c6 hi]
      have hBi := ((hbk h hh6).2 i hi).mp hb
      refine br_c (fun z => nm_r (nI_1 i) (keep (fun _ => Int32.le_iff_toInt_le.mp z))) (fun z => ⟨zw_i6 hi, nm_e (nm_r (nI_1 i) (k _ ?_))⟩)
      have hlt := mt Int32.le_iff_toInt_le.mpr z
      have hv := (hval i hi).resolve_left (by omega)
      refine ⟨hv.1, hv.2, fun a ha hBa => ?_, Or.inr ⟨i, hBi, rfl⟩⟩
      by_cases hai : a = i
      · subst hai; exact Int.le_refl _
      · have := h3 a (by omega) hBa
        omega
end
end
section
/-! no walk is heavier than the table says -/
def zw_s6 (f : Nat → Int) : Int := f 0 + f 1 + f 2 + f 3 + f 4 + f 5
theorem zw_s6l {f g : Nat → Int} {w : Nat} {e : Int} (hw : w < 6) (h : ∀ i, i < 6 → i ≠ w → f i ≤ g i) (he : f w ≤ g w + e) : zw_s6 f ≤ zw_s6 g + e := by
  have h0 := h 0 (by decide)
  have h1 := h 1 (by decide)
  have h2 := h 2 (by decide)
  have h3 := h 3 (by decide)
  have h4 := h 4 (by decide)
  have h5 := h 5 (by decide)
  unfold zw_s6
  rcases zw_6c hw with rfl | rfl | rfl | rfl | rfl | rfl
  · have := h1 (by decide); have := h2 (by decide); have := h3 (by decide); have := h4 (by decide); have := h5 (by decide); omega
  · have := h0 (by decide); have := h2 (by decide); have := h3 (by decide); have := h4 (by decide); have := h5 (by decide); omega
  · have := h0 (by decide); have := h1 (by decide); have := h3 (by decide); have := h4 (by decide); have := h5 (by decide); omega
  · have := h0 (by decide); have := h1 (by decide); have := h2 (by decide); have := h4 (by decide); have := h5 (by decide); omega
  · have := h0 (by decide); have := h1 (by decide); have := h2 (by decide); have := h3 (by decide); have := h5 (by decide); omega
  · have := h0 (by decide); have := h1 (by decide); have := h2 (by decide); have := h3 (by decide); have := h4 (by decide); omega
theorem zw_s6p {f : Nat → Int} (h : ∀ i, i < 6 → 0 ≤ f i) : 0 ≤ zw_s6 f := by
  have h0 := h 0 (by decide)
  have h1 := h 1 (by decide)
  have h2 := h 2 (by decide)
  have h3 := h 3 (by decide)
  have h4 := h 4 (by decide)
  have h5 := h 5 (by decide)
  unfold zw_s6
  omega
theorem zw_c00 (c : Nat) : zw_c 0 c = 0 := by
  unfold zw_c
  simp
/-- what the loops around a state may still add -/
noncomputable def zw_f (nx bo : Nat → Int32) (Rr : Nat → Int) (s h : Nat) : Int := @ite Int (zw_I nx h (s % 6)) (Classical.propDecidable _) (((bo h).toInt - 1 - (zw_c s h : Int)) * Rr h) 0
theorem zw_ft1 {nx bo : Nat → Int32} {Rr : Nat → Int} {s h : Nat} (hi : zw_I nx h (s % 6)) : zw_f nx bo Rr s h = ((bo h).toInt - 1 - (zw_c s h : Int)) * Rr h := by
  unfold zw_f; exact if_pos hi
theorem zw_ff {nx bo : Nat → Int32} {Rr : Nat → Int} {s h : Nat} (hi : ¬ zw_I nx h (s % 6)) : zw_f nx bo Rr s h = 0 := by
  unfold zw_f; exact if_neg hi
theorem zw_fp {nx bo : Nat → Int32} {Rr : Nat → Int} {s h : Nat} (hr : 0 ≤ Rr h) (hc : (zw_c s h : Int) < (bo h).toInt) : 0 ≤ zw_f nx bo Rr s h := by
  by_cases hi : zw_I nx h (s % 6)
  · rw [zw_ft1 hi]; exact Int.mul_nonneg (by omega) hr
  · rw [zw_ff hi]; exact Int.le_refl 0
section
variable {nx bo : Nat → Int32} {wt Q Rr v : Nat → Int}
theorem zw_V (hB : zw_bd bo) (hQ : ∀ w, w < 6 → Q w = ((bo w).toInt - 1) * Rr w) (hr : ∀ w, 0 ≤ Rr w) (hfb : zx_fb nx wt Q Rr v (zw_L nx) 6) (h0 : v 0 ≠ -1000000) (hs : wt 0 + Q 0 ≤ v 0) :
    ∀ n s g, zw_W nx bo wt (fun _ => True) n 0 s g → v (s % 6) ≠ -1000000 ∧ wt 0 + g + zw_s6 (zw_f nx bo Rr s) ≤ v (s % 6) := by
  have hc0 : ∀ c, c < 6 → (zw_c 0 c : Int) < (bo c).toInt := by
    intro c hc
    have : zw_c 0 c = 0 := zw_c00 c
    rw [this]
    have := (hB c hc).1
    omega
  intro n
  induction n with
  | zero =>
    intro s g hw
    obtain ⟨rfl, rfl⟩ := hw
    refine ⟨h0, ?_⟩
    have hz : zw_s6 (zw_f nx bo Rr 0) ≤ zw_s6 (fun _ => 0) + Q 0 := by
      refine zw_s6l (w := 0) (by decide) (fun i hi hn => ?_) ?_
      · rw [zw_ff (fun z => hn (zw_D00 (zw_ID z)))]; exact Int.le_refl 0
      · by_cases hi : zw_I nx 0 (0 % 6)
        · rw [zw_ft1 hi, hQ 0 (by decide)]
          have : zw_c 0 0 = 0 := by decide
          rw [this]
          simp
        · rw [zw_ff hi, hQ 0 (by decide)]
          have := Int.mul_nonneg (a := (bo 0).toInt - 1) (b := Rr 0) (by have := (hB 0 (by decide)).1; omega) (hr 0)
          omega
    have e0 : zw_s6 (fun _ => 0) = 0 := by decide
    rw [e0] at hz
    show wt 0 + 0 + zw_s6 (zw_f nx bo Rr 0) ≤ v 0
    omega
  | succ n ih =>
    intro s' g hw
    have hbs' := zw_Wb hB hw hc0
    obtain ⟨s, g', hq, hst, _, rfl⟩ := hw
    have hbs := zw_Wb hB hq hc0
    obtain ⟨i1, i2⟩ := ih s g' hq
    obtain ⟨b, t, he, hl, hd, ht, rfl⟩ := hst
    have hb6 := he.2.1
    have hn : zw_g s b t % 6 = b := zw_gn hb6
    have ht3 := zw_t3 hB hb6 ht
    have hoth : ∀ i, i < 6 → i ≠ b → zw_f nx bo Rr (zw_g s b t) i ≤ zw_f nx bo Rr s i := by
      intro i hi hib
      by_cases hI : zw_I nx i (zw_g s b t % 6)
      · have hI2 : zw_I nx i (s % 6) := by
          rw [hn] at hI
          exact zw_Is he hl hI (fun z => hib z.symm)
        rw [zw_ft1 hI, zw_ft1 hI2, zw_gd hb6 hi hib ht3]
        exact Int.le_refl _
      · rw [zw_ff hI]
        exact zw_fp (hr i) (hbs i hi)
    rw [hn]
    rcases hd with ⟨hd, rfl⟩ | ⟨hd, rfl⟩
    · have hback : zw_B nx (s % 6) b := ⟨he, hl, hd⟩
      have h1 := hfb.2 (s % 6) b hback hl (zw_Ls hl he) (by omega) i1
      refine ⟨h1.1, ?_⟩
      have hsum := zw_s6l (f := zw_f nx bo Rr (zw_g s b (zw_c s b + 1))) (g := zw_f nx bo Rr s) (e := - Rr b) hb6 hoth (by
        rw [zw_ft1 (by rw [hn]; exact zw_Ih hback), zw_ft1 (zw_Ib hback), zw_gc hb6 ht3]
        have e : ((bo b).toInt - 1 - ((zw_c s b + 1 : Nat) : Int)) = ((bo b).toInt - 1 - (zw_c s b : Int)) - 1 := by omega
        rw [e, Int.sub_mul]
        omega)
      omega
    · have hF : zw_F nx (s % 6) b := ⟨he, hl, hd⟩
      have h1 := hfb.1 (s % 6) b hF hl (zw_Ls hl he) i1
      refine ⟨h1.1, ?_⟩
      have hsum := zw_s6l (f := zw_f nx bo Rr (zw_g s b 0)) (g := zw_f nx bo Rr s) (e := Q b) hb6 hoth (by
        have hp := zw_fp (nx := nx) (hr b) (hbs b hb6)
        by_cases hI : zw_I nx b (zw_g s b 0 % 6)
        · rw [zw_ft1 hI, zw_gc hb6 ht3, hQ b hb6]
          simp only [Int.natCast_zero, Int.sub_zero]
          omega
        · rw [zw_ff hI, hQ b hb6]
          have := Int.mul_nonneg (a := (bo b).toInt - 1) (b := Rr b) (by have := (hB b hb6).1; omega) (hr b)
          omega)
      omega
theorem zw_V' (hB : zw_bd bo) (hQ : ∀ w, w < 6 → Q w = ((bo w).toInt - 1) * Rr w) (hr : ∀ w, 0 ≤ Rr w) (hfb : zx_fb nx wt Q Rr v (zw_L nx) 6) (h0 : v 0 ≠ -1000000) (hs : wt 0 + Q 0 ≤ v 0)
    {n s : Nat} {g : Int} (hw : zw_W nx bo wt (fun _ => True) n 0 s g) : v (s % 6) ≠ -1000000 ∧ wt 0 + g ≤ v (s % 6) := by
  have h1 := zw_V hB hQ hr hfb h0 hs n s g hw
  have h2 : 0 ≤ zw_s6 (zw_f nx bo Rr s) := by
    apply zw_s6p
    intro i hi
    refine zw_fp (hr i) (zw_Wb hB hw ?_ i hi)
    intro c hc
    have : zw_c 0 c = 0 := zw_c00 c
    rw [this]
    have := (hB c hc).1
    omega
  exact ⟨h1.1, by omega⟩
end
/-! weigh -/
def zx_res (nx bo we re : Nat → Int32) : Prop :=
  ∀ b, b < 6 → ((re b).toInt = -1000000 ∧ ∀ n s g, zw_W nx bo (fun b => (we b).toInt) (fun _ => True) n 0 s g → s % 6 ≠ b) ∨
    (0 ≤ (re b).toInt ∧ (∃ n s g, zw_W nx bo (fun b => (we b).toInt) (fun _ => True) n 0 s g ∧ s % 6 = b ∧ (re b).toInt = (we 0).toInt + g) ∧ ∀ n s g, zw_W nx bo (fun b => (we b).toInt) (fun _ => True) n 0 s g → s % 6 = b → (we 0).toInt + g ≤ (re b).toInt)
section
variable {kn lv od hc : Int32} {co bo nx dm fw bk lp ow hs we il re : Nat → Int32} {m c : Nat} {o d : Nat → Nat} {Q Rr : Nat → Int}
theorem zx_wend {post : SX → Prop} (K : zx_kx nx bo we od hc fw lp ow hs m c o d) (hlv : zw_is lv (zw_L nx))
    (hQ : ∀ w, w < 6 → Q w = ((bo w).toInt - 1) * Rr w) (hr : ∀ w, 0 ≤ Rr w) (hz : ∀ w, w < 6 → ¬ zw_I nx w w → Rr w = 0) (hS : ∀ K, zw_I nx K K → zx_sm nx bo (fun b => (we b).toInt) Q Rr il K)
    (hp : ∀ re', zx_res nx bo we re' → post (kn, lv, od, hc, co, bo, nx, dm, fw, bk, lp, ow, hs, we, il, re')) :
    wpX_begin (fun u => match u with | (kn, lv, od, hc, co, bo, nx, dm, fw, bk, lp, ow, hs, we, il, re) => wpX_largestLoop (fun r => wpX_comeTo (fun u => match u with | (kn, lv, od, hc, co, bo, nx, dm, fw, bk, lp, ow, hs, we, il, re) => wpX_pass (fun u => match u with | (kn, lv, od, hc, co, bo, nx, dm, fw, bk, lp, ow, hs, we, il, re) => post (kn, lv, od, hc, co, bo, nx, dm, fw, bk, lp, ow, hs, we, il, re)) (kn, lv, od, hc, co, bo, nx, dm, fw, bk, lp, ow, hs, we, il, re) lv (-1)) (kn, lv, od, hc, co, bo, nx, dm, fw, bk, lp, ow, hs, we, il, re) 0 r 0) (kn, lv, od, hc, co, bo, nx, dm, fw, bk, lp, ow, hs, we, il, re) 0 lv (-1)) (kn, lv, od, hc, co, bo, nx, dm, fw, bk, lp, ow, hs, we, il, re) := by
  have K' := K
  obtain ⟨hod, hhc, how, hhs, hO, hH, hlp, hfw, hB, hwo⟩ := K'
  have hQ0 : ∀ w, w < 6 → 0 ≤ Q w := fun w hw => by
    rw [hQ w hw]
    exact Int.mul_nonneg (by have := (hB w hw).1; omega) (hr w)
  have hQz : ∀ w, w < 6 → ¬ zw_I nx w w → Q w = 0 := fun w hw hn => by
    rw [hQ w hw, hz w hw hn, Int.mul_zero]
  have hq : ∀ k, k < 6 → (nI k = (-1 : Int32) ↔ k = 6) := fun k hk => ⟨fun z => absurd z (zw_m6 hk), fun z => by omega⟩
  have hpt : zx_pt nx (zw_L nx) 6 (fun _ => True) := ⟨fun a b hf _ _ => ⟨trivial, by have := hf.1.2.1; omega⟩, fun _ _ _ _ _ => trivial, fun K hK _ _ y hy => zw_IL hy, fun y hy => hy⟩
  have PP : zx_pp nx bo we il Q Rr (fun s => s = 0) (fun _ => True) (we 0).toInt (zw_L nx) 6 lv (-1) :=
    ⟨hpt, hlv, hq, fun s hs => by subst hs; exact ⟨by decide, zw_L0⟩, ⟨0, rfl⟩, hwo 0 (by decide), fun K _ _ hK => hS K hK, hQ0, hQz⟩
  have hw0 := hwo 0 (by decide)
  have hf0 : (-1000000 : Int32).toInt = -1000000 := by decide
  have h00 : (0 : Int32).toInt = 0 := by decide
  refine zx_begin ?_
  intro re0 hre0
  have hR0 : zx_R nx bo (fun b => (we b).toInt) (fun s => s = 0) (fun _ => True) (we 0).toInt (zw_L nx) re0 := fun b hb => Or.inl (by rw [hre0 b hb]; exact hf0)
  have hsh0 : zx_sh nx (zw_L nx) 6 il (fun y => (re0 y).toInt) := fun H w _ => Or.inl (fun y hy => by dsimp only; rw [hre0 y (zw_I6 hy)]; exact hf0)
  have fin : ∀ re1, zx_R nx bo (fun b => (we b).toInt) (fun s => s = 0) (fun _ => True) (we 0).toInt (zw_L nx) re1 → zx_sh nx (zw_L nx) 6 il (fun y => (re1 y).toInt) → (we 0).toInt + Q 0 ≤ (re1 0).toInt →
      wpX_pass (fun u => match u with | (kn, lv, od, hc, co, bo, nx, dm, fw, bk, lp, ow, hs, we, il, re) => post (kn, lv, od, hc, co, bo, nx, dm, fw, bk, lp, ow, hs, we, il, re)) (kn, lv, od, hc, co, bo, nx, dm, fw, bk, lp, ow, hs, we, il, re1) lv (-1) := by
    intro re1 hR1 hsh1 hst
    refine zx_pass K PP hR1 hsh1 ?_
    intro re2 hR2 hmono hfb
    refine hp re2 ?_
    have h2 := hmono 0 (by decide)
    have hq0 := hQ0 0 (by decide)
    have hup := fun n s g => zw_V' (n := n) (s := s) (g := g) (v := fun y => (re2 y).toInt) hB hQ hr hfb (by omega) (by omega)
    intro b hb
    rcases hR2 b hb with h | ⟨_, h3, _, h4⟩
    · refine Or.inl ⟨h, fun n s g hw z => ?_⟩
      have := (hup n s g hw).1
      rw [z] at this
      exact this h
    · obtain ⟨n, s', g, j1, j2, j3⟩ := h4 0 rfl
      refine Or.inr ⟨h3, ⟨n, s', g, j1, j2, j3⟩, fun n s g hw z => ?_⟩
      have := (hup n s g hw).2
      rw [z] at this
      exact this
  refine zx_largest (b := 0) (by decide) hhc hhs hH hlp hlv hq (fun hno => ?_) (fun H ht => ?_)
  · have hov : (0 + we 0).toInt = (0 : Int32).toInt + (we 0).toInt := by rw [Int32.zero_add, h00]; omega
    refine zx_comeTo0 (b := 0) (by decide) hov (fun re1 hcm => fin re1 ?_ (zx_shn hno hcm hsh0) ?_)
    · refine zx_cmR hcm hR0 (fun y hy hd => ?_)
      subst hd
      rw [h00]
      exact ⟨zw_L0, by omega, by omega, fun s hs => ⟨0, s, 0, ⟨rfl, rfl⟩, by rw [hs], by omega⟩⟩
    · have hn : ¬ zw_I nx 0 0 := fun z => hno 0 ⟨z, by decide, fun y hy => zw_IL hy⟩
      have h1 := zx_cmg hcm (y := 0) (by decide) rfl
      rw [h00] at h1
      rw [hQz 0 (by decide) hn]
      omega
  · have hH0 : H = 0 := zw_D00 (zw_ID ht.1.1)
    subst hH0
    have hs := hS 0 ht.1.1
    have hov : ∀ y, y < 6 → (il (0 * 6 + y)).toInt = -1000000 ∨ (0 ≤ (il (0 * 6 + y)).toInt ∧ ((0 : Int32) + il (0 * 6 + y)).toInt = (0 : Int32).toInt + (il (0 * 6 + y)).toInt) := by
      intro y hy
      rcases hs.1 y hy with h | h
      · exact Or.inl h
      · exact Or.inr ⟨h.2.1, by rw [Int32.zero_add, h00]; omega⟩
    refine zx_comeTo1 (H := 0) (b := 0) (by decide) hov (fun re1 hcm => ?_)
    rw [h00] at hcm
    refine fin re1 ?_ (zx_shl ht (Int.le_refl 0) hs.1 hcm hsh0) ?_
    · refine zx_cmR hcm hR0 (fun y hy hd => ?_)
      have h := (hs.1 y hy).resolve_left hd
      refine ⟨zw_IL h.1, by omega, by omega, fun s hs0 => ?_⟩
      subst hs0
      obtain ⟨n, s', g, j1, j2, j3⟩ := h.2.2.2 0 (by decide) (by decide) (by decide)
      exact ⟨n, s', g, zw_Wm (fun _ _ _ => trivial) j1, j2, by dsimp only at j3 ⊢; omega⟩
    · have h1 := zx_cmg hcm (y := 0) (by decide) hs.2.2.1
      have h2 := hs.2.2.2
      dsimp only at h1 h2
      omega
theorem zx_weigh {post : SX → Prop} (K : zx_kx nx bo we od hc fw lp ow hs m c o d) (hlv : zw_is lv (zw_L nx)) (hbk : ∀ h, h < 6 → zw_is (bk h) (fun a => zw_B nx a h))
    (hp : ∀ il' re', zx_res nx bo we re' → post (kn, lv, od, hc, co, bo, nx, dm, fw, bk, lp, ow, hs, we, il', re')) : wpX_weigh post (kn, lv, od, hc, co, bo, nx, dm, fw, bk, lp, ow, hs, we, il, re) := by
  have K' := K
  obtain ⟨hod, hhc, how, hhs, hO, hH, hlp, hfw, hB, hwo⟩ := K'
  have hc6 := hH.1
  refine loop_0 (fun n i (s : (Nat → Int32) × (Nat → Int32)) => wX_weigh_2 post n (nI i) kn lv od hc co bo nx dm fw bk lp ow hs we (s.1) (s.2))
    (fun i s => ∃ Q Rr : Nat → Int, (∀ w, w < 6 → Q w = ((bo w).toInt - 1) * Rr w) ∧ (∀ w, 0 ≤ Rr w) ∧ (∀ w, w < 6 → ¬ zw_I nx w w → Rr w = 0) ∧ ∀ j, j < i → zx_sm nx bo (fun b => (we b).toInt) Q Rr s.1 (d j)) c (il, re)
    ⟨fun _ => 0, fun _ => 0, fun _ _ => (Int.mul_zero _).symm, fun _ => Int.le_refl 0, fun _ _ _ => rfl, fun j hj => absurd hj (by omega)⟩ ?_ ?_
  · rintro n ⟨il1, re1⟩ ⟨Q, Rr, h1, h2, h3, h4⟩
    refine br_t (by rw [hhc]; exact nI_le (Nat.le_refl c) (by omega)) ?_
    refine zx_wend K hlv h1 h2 h3 (fun K hK => ?_) (fun re' hr => hp il1 re' hr)
    obtain ⟨j, hj, rfl⟩ := hH.2.2.2 K hK
    exact h4 j hj
  · rintro n i ⟨il1, re1⟩ hi ⟨Q, Rr, h1, h2, h3, h4⟩ k
    dsimp only at h4 k ⊢
    have hi6 : i < 6 := by omega
    have hIi := hH.2.1 i hi
    have hd6 := zw_I6 hIi
    refine br_f (by rw [hhc]; exact nI_ge hi (by omega)) ⟨zw_i6 hi6, ?_⟩
    rw [zw_c6 hi6, hhs i hi]
    refine zx_sumUp (Q := Q) (Rr := Rr) K hbk hIi ?_ ?_ ?_ ?_
    · intro K hK hs hKK
      obtain ⟨j, hj, rfl⟩ := hH.2.2.2 K hKK
      refine h4 j ?_
      apply Classical.byContradiction
      intro hji
      have := hH.2.2.1 i j (by omega) hj
      have := zw_zlt (hs _ hKK) hKK hK
      omega
    · intro w hw
      rw [h1 w hw]
      exact Int.mul_nonneg (by have := (hB w hw).1; omega) (h2 w)
    · intro w hw hn
      rw [h1 w hw, h3 w hw hn, Int.mul_zero]
    · intro re2 il2 rd hrd hil hsm
      refine nm_r (nI_1 i) (k (il2, re2) ⟨zx_u Q (d i) (((bo (d i)).toInt - 1) * rd), zx_u Rr (d i) rd, ?_, ?_, ?_, ?_⟩)
      · intro w hw
        by_cases hwd : w = d i
        · subst hwd; rw [zx_us, zx_us]
        · rw [zx_un hwd, zx_un hwd]; exact h1 w hw
      · intro w
        by_cases hwd : w = d i
        · subst hwd; rw [zx_us]; exact hrd
        · rw [zx_un hwd]; exact h2 w
      · intro w hw hn
        by_cases hwd : w = d i
        · subst hwd; exact absurd hIi hn
        · rw [zx_un hwd]; exact h3 w hw hn
      · intro j hj
        dsimp only
        by_cases hji : d j = d i
        · rw [hji]; exact hsm
        · have hjie : j ≠ i := fun z => hji (by rw [z])
          have hjI := hH.2.1 j (by omega)
          have hj6 := zw_I6 hjI
          refine zx_smc (h4 j (by omega)) (fun w hw => ?_) hjI (fun y hy => hil _ (by omega))
          have hwd : w ≠ d i := by
            intro z
            subst z
            have := zw_zlt hw hIi (fun z => hji z.symm)
            have := hH.2.2.1 j i (by omega) hi
            omega
          rw [zx_un hwd, zx_un hwd]
          exact ⟨rfl, rfl⟩
/-! useCosts, greatestReach -/
theorem zx_useCosts {post : SX → Prop} (h : ∀ we', (∀ b, b < 6 → we' b = co b) → post (kn, lv, od, hc, co, bo, nx, dm, fw, bk, lp, ow, hs, we', il, re)) : wpX_useCosts post (kn, lv, od, hc, co, bo, nx, dm, fw, bk, lp, ow, hs, we, il, re) := by
  refine loop_0 (fun n i s => wX_useCosts_2 post kn lv od hc n (nI i) co bo nx dm fw bk lp ow hs s il re) (fun i s => ∀ b, b < i → s b = co b) 6 we (fun b hb => absurd hb (by omega)) ?_ ?_
  · intro n s hI
    exact br_t zw_66 (h s hI)
  · intro n i s hi hI k
    refine br_f (zw_6 hi) ⟨zw_i6 hi, zw_i6 hi, nm_r (e' := upd s i (co i)) (by rw [zw_c6 hi]) (nm_r (nI_1 i) (k _ ?_))⟩
    intro b hb
    by_cases hbi : b = i
    · subst hbi; exact pk_us
    · rw [pk_un hbi]; exact hI b (by omega)
theorem zx_greatest {post : Int32 → Prop} (hr : zx_res nx bo we re) (hw0 : 0 ≤ (we 0).toInt) (hp : ∀ r, 0 ≤ r.toInt → zw_opt nx bo (fun b => (we b).toInt) 1 (fun _ => True) r → post r) : wpX_greatestReach post (kn, lv, od, hc, co, bo, nx, dm, fw, bk, lp, ow, hs, we, il, re) := by
  have h0 := hr 0 (by decide)
  have hx : ¬ (1 : Int32) = 0 := by decide
  have hw00 : zw_W nx bo (fun b => (we b).toInt) (fun _ => True) 0 0 0 0 := ⟨rfl, rfl⟩
  have h1 : 0 ≤ (re 0).toInt ∧ (we 0).toInt ≤ (re 0).toInt := by
    rcases h0 with ⟨_, h⟩ | ⟨h2, _, h3⟩
    · exact absurd rfl (h 0 0 0 hw00)
    · have := h3 0 0 0 hw00 rfl
      exact ⟨h2, by omega⟩
  refine loop_0 (fun n i s => wX_greatestReach_4 post kn lv od hc co bo nx dm fw bk lp ow hs we il re n s (nI i)) (fun i s => 0 ≤ s.toInt ∧ (∀ b, b < i → (re b).toInt ≤ s.toInt) ∧ ((∃ b, b < 6 ∧ (re b).toInt = s.toInt) ∨ s.toInt = 0)) 6 0 ⟨by decide, fun b hb => absurd hb (by omega), Or.inr (by decide)⟩ ?_ ?_
  · rintro n s ⟨i1, i2, i3⟩
    have i3' : ∃ b, b < 6 ∧ (re b).toInt = s.toInt := by
      rcases i3 with i3 | i3
      · exact i3
      · have := i2 0 (by decide)
        exact ⟨0, by decide, by omega⟩
    refine br_t zw_66 (hp s i1 (Or.inr ⟨?_, fun n q g hw _ => ⟨fun z => absurd z hx, fun _ => ?_⟩⟩))
    · obtain ⟨b, hb, e⟩ := i3'
      rcases hr b hb with ⟨h, _⟩ | ⟨_, ⟨n, q, g, j1, _, j3⟩, _⟩
      · omega
      · exact ⟨n, q, g, j1, trivial, by rw [← e]; exact j3⟩
    · have h6 : q % 6 < 6 := Nat.mod_lt _ (by decide)
      have := i2 _ h6
      rcases hr _ h6 with ⟨_, h⟩ | ⟨_, _, h⟩
      · exact absurd rfl (h n q g hw)
      · have := h n q g hw rfl
        dsimp only
        omega
  · rintro n i s hi ⟨i1, i2, i3⟩ k
    refine br_f (zw_6 hi) ⟨zw_i6 hi, ?_⟩
    rw [zw_c6 hi]
    refine br_c (fun z => nm_r (nI_1 i) (k s ⟨i1, fun b hb => ?_, i3⟩)) (fun z => ⟨zw_i6 hi, nm_e (nm_r (nI_1 i) (k _ ?_))⟩)
    · by_cases hbi : b = i
      · subst hbi; exact Int32.le_iff_toInt_le.mp z
      · exact i2 b (by omega)
    · have := mt Int32.le_iff_toInt_le.mpr z
      refine ⟨by omega, fun b hb => ?_, Or.inl ⟨i, hi, rfl⟩⟩
      by_cases hbi : b = i
      · subst hbi; exact Int.le_refl _
      · have := i2 b (by omega)
        omega
end
end
section
/-! least -/
theorem zw_Wdom {nx bo : Nat → Int32} {wt : Nat → Int} (hw : ∀ b, b < 6 → 0 ≤ wt b) {h : Nat} : ∀ n s g, zw_W nx bo wt (fun _ => True) n 0 s g → zw_D nx h (s % 6) → ∃ n' s' g', n' ≤ n ∧ zw_W nx bo wt (fun _ => True) n' 0 s' g' ∧ s' % 6 = h ∧ g' ≤ g := by
  intro n
  induction n with
  | zero =>
    intro s g hq hd
    have hq' := hq
    obtain ⟨rfl, rfl⟩ := hq'
    exact ⟨0, 0, 0, Nat.le_refl 0, hq, (zw_D00 hd).symm, Int.le_refl 0⟩
  | succ n ih =>
    intro s g hq hd
    by_cases hs : s % 6 = h
    · exact ⟨n + 1, s, g, Nat.le_refl _, hq, hs, Int.le_refl g⟩
    · obtain ⟨q, g', hq2, hst, _, rfl⟩ := hq
      have he := zw_SE hst
      obtain ⟨n', s', g2, h1, h2, h3, h4⟩ := ih q g' hq2 (zw_Dp hd hs he.1 he.2)
      have := hw (s % 6) (Nat.mod_lt _ (by decide))
      exact ⟨n', s', g2, by omega, h2, h3, by omega⟩
theorem zw_Wex {nx bo : Nat → Int32} {wt : Nat → Int} {m : Nat} {o : Nat → Nat} (hO : zw_O nx m o) (hB : zw_bd bo) : ∀ k, k < m → ∃ n s g, zw_W nx bo wt (fun _ => True) n 0 s g ∧ s % 6 = o k := by
  intro k
  induction k using Nat.strongRecOn with
  | _ k ih =>
    intro hk
    by_cases h0 : o k = 0
    · exact ⟨0, 0, 0, ⟨rfl, rfl⟩, h0.symm⟩
    · obtain ⟨p, hp⟩ := zw_pr (hO.2.1 k hk).2 h0
      obtain ⟨j, hj, rfl⟩ := hO.2.2.2.1 k p hk hp
      obtain ⟨n, s, g, h1, h2⟩ := ih j hj (by omega)
      have hf : zw_F nx (s % 6) (o k) := by rw [h2]; exact hp
      have hn : zw_g s (o k) 0 % 6 = o k := zw_gn hp.1.2.1
      exact ⟨n + 1, zw_g s (o k) 0, g + wt (o k), ⟨s, g, h1, zw_Sf hB hf, trivial, by rw [hn]⟩, hn⟩
def zx_lA (nx bo co : Nat → Int32) (re : Nat → Int32) : Prop :=
  ∀ y, y < 6 → (re y).toInt = 1000000 ∨ (0 ≤ (re y).toInt ∧ (re y).toInt ≤ 204800 ∧ ∃ n s g, zw_W nx bo (fun b => (co b).toInt) (fun _ => True) n 0 s g ∧ s % 6 = y ∧ (re y).toInt = (co 0).toInt + g)
theorem zx_lAb {nx bo co re : Nat → Int32} (h : zx_lA nx bo co re) {y : Nat} (hy : y < 6) : 0 ≤ (re y).toInt ∧ (re y).toInt ≤ 1000000 := by
  rcases h y hy with h | h <;> omega
theorem zx_lend {nx bo co re : Nat → Int32} {m : Nat} {o : Nat → Nat} (hO : zw_O nx m o) (hB : zw_bd bo) (hwo : zy_wo co) (hA : zx_lA nx bo co re) (h0 : (re 0).toInt ≤ (co 0).toInt)
    (hc : ∀ a b, zw_F nx a b → (re b).toInt ≤ (re a).toInt + (co b).toInt) {b : Nat} (hb : zw_L nx b) : zw_opt nx bo (fun b => (co b).toInt) 0 (fun s => s % 6 = b) (re b) := by
  have key : ∀ n s g, zw_W nx bo (fun b => (co b).toInt) (fun _ => True) n 0 s g → (re (s % 6)).toInt ≤ (co 0).toInt + g := by
    intro n
    induction n using Nat.strongRecOn with
    | _ n ih =>
      intro s g hw
      cases n with
      | zero =>
        obtain ⟨rfl, rfl⟩ := hw
        show (re 0).toInt ≤ _
        omega
      | succ n =>
        obtain ⟨q, g', hq, hst, _, rfl⟩ := hw
        have he := zw_SE hst
        have h6 : s % 6 < 6 := Nat.mod_lt _ (by decide)
        have hws := hwo (s % 6) h6
        by_cases hd : zw_D nx (s % 6) (q % 6)
        · obtain ⟨n', s', g2, h1, h2, h3, h4⟩ := zw_Wdom (fun b hb => (hwo b hb).1) n q g' hq hd
          have := ih n' (by omega) s' g2 h2
          rw [h3] at this
          show _ ≤ (co 0).toInt + (g' + (co (s % 6)).toInt)
          omega
        · have h1 := hc (q % 6) (s % 6) ⟨he.1, he.2, hd⟩
          have h2 := ih n (by omega) q g' hq
          show _ ≤ (co 0).toInt + (g' + (co (s % 6)).toInt)
          omega
  obtain ⟨k, hk, rfl⟩ := hO.2.2.2.2 b hb
  obtain ⟨n, s, g, h1, h2⟩ := zw_Wex (wt := fun b => (co b).toInt) hO hB k hk
  have h3 := key n s g h1
  rw [h2] at h3
  have h4 := zw_Wg' hO hB hwo (s := 0) zw_L0 h1
  have h5 := hwo 0 (by decide)
  have h6 := (hA (o k) (zw_L6 hb)).resolve_left (by omega)
  obtain ⟨_, _, n, s, g, j1, j2, j3⟩ := h6
  refine Or.inr ⟨⟨n, s, g, j1, j2, j3⟩, fun n s g hw hs => ⟨fun _ => ?_, fun z => absurd rfl z⟩⟩
  have := key n s g hw
  rw [hs] at this
  exact this
section
variable {kn lv od hc : Int32} {co bo nx dm fw bk lp ow hs we il re : Nat → Int32} {m : Nat} {o : Nat → Nat}
theorem zx_le81 {post : Int32 → SX → Prop} {J63 : Int32 → (Nat → Int32) → (Nat → Int32) → (Nat → Int32) → (Nat → Int32) → (Nat → Int32) → (Nat → Int32) → (Nat → Int32) → (Nat → Int32) → (Nat → Int32) → (Nat → Int32) → (Nat → Int32) → (Nat → Int32) → Prop} {x1 : Int32} {k : Nat}
    (hO : zw_O nx m o) (hB : zw_bd bo) (hwo : zy_wo co) (hfw : ∀ a, a < 6 → zw_is (fw a) (fun b => zw_F nx a b)) (hk : k < m) (hA : zx_lA nx bo co re)
    (hJ : ∀ re', zx_lA nx bo co re' → (∀ y, y < 6 → (re' y).toInt ≤ (re y).toInt) → (∀ j, j ≤ k → re' (o j) = re (o j)) → (∀ b, zw_F nx (o k) b → (re' b).toInt ≤ (re' (o k)).toInt + (co b).toInt) → J63 (nI k + 1) co bo nx dm fw bk lp ow hs we il re') :
    ∃ n, wX_least_81 post J63 x1 (nI k) (nI (o k)) kn lv od hc n 0 co bo nx dm fw bk lp ow hs we il re := by
  have ha6 := (hO.2.1 k hk).1
  refine loop_0 (fun n i s => wX_least_81 post J63 x1 (nI k) (nI (o k)) kn lv od hc n (nI i) co bo nx dm fw bk lp ow hs we il s)
    (fun i s => zx_lA nx bo co s ∧ (∀ y, y < 6 → (s y).toInt ≤ (re y).toInt) ∧ (∀ j, j ≤ k → s (o j) = re (o j)) ∧ ∀ b, b < i → zw_F nx (o k) b → (s b).toInt ≤ (s (o k)).toInt + (co b).toInt) 6 re
    ⟨hA, fun _ _ => Int.le_refl _, fun _ _ => rfl, fun b hb => absurd hb (by omega)⟩ ?_ ?_
  · rintro n s ⟨h1, h2, h3, h4⟩
    exact br_t zw_66 (nm_e (hJ s h1 h2 h3 (fun b hf => h4 b hf.1.2.1 hf)))
  · rintro n i s hi ⟨h1, h2, h3, h4⟩ kk
    have keep : (zw_F nx (o k) i → (s i).toInt ≤ (s (o k)).toInt + (co i).toInt) → wX_least_81 post J63 x1 (nI k) (nI (o k)) kn lv od hc n (nI (i + 1)) co bo nx dm fw bk lp ow hs we il s := by
      intro hn
      refine kk s ⟨h1, h2, h3, fun b hb hf => ?_⟩
      by_cases hbi : b = i
      · subst hbi; exact hn hf
      · exact h4 b (by omega) hf
    refine br_f (zw_6 hi) ⟨zw_i6 ha6, ?_⟩
    rw [zw_c6 ha6]
    refine zx_in (by omega) (fun hb => nm_r (nI_1 i) (keep (fun z => absurd z ((zw_isf (hfw _ ha6) hi).mp hb)))) (fun hb => ⟨zw_i6 ha6, zw_i6 hi, zw_i6 hi, ?_⟩)
    rw [zw_c6 hi]
    have hf : zw_F nx (o k) i := ((hfw _ ha6).2 i hi).mp hb
    have hwi := hwo i hi
    have hva := zx_lAb h1 ha6
    have hvi := zx_lAb h1 hi
    have e : (s (o k) + co i).toInt = (s (o k)).toInt + (co i).toInt := zw_add32 hva.1 hwi.1 (by omega)
    have hpos : ∀ j, j ≤ k → o j ≠ i := by
      intro j hj z
      have hf' : zw_F nx (o k) (o j) := by rw [z]; exact hf
      obtain ⟨j2, hj2, e2⟩ := hO.2.2.2.1 j _ (by omega) hf'
      have := hO.2.2.1 j2 k (by omega) hk e2
      omega
    refine br_c (fun z => nm_r (nI_1 i) (keep (fun _ => ?_))) (fun z => ⟨zw_i6 ha6, zw_i6 hi, zw_i6 hi, nm_e (nm_r (nI_1 i) (kk _ ?_))⟩)
    · have := Int32.le_iff_toInt_le.mp z
      omega
    · have hlt := mt Int32.le_iff_toInt_le.mpr z
      have hki : o k ≠ i := hpos k (Nat.le_refl k)
      refine ⟨fun y hy => ?_, fun y hy => ?_, fun j hj => ?_, fun b hb hfb => ?_⟩
      · by_cases hyi : y = i
        · subst hyi
          rw [pk_us, e]
          rcases h1 (o k) ha6 with hz | ⟨_, _, n, q, g, j1, j2, j3⟩
          · omega
          · have hf' : zw_F nx (q % 6) y := by rw [j2]; exact hf
            have hn : zw_g q y 0 % 6 = y := zw_gn hy
            have hw : zw_W nx bo (fun b => (co b).toInt) (fun _ => True) (n + 1) 0 (zw_g q y 0) (g + (co y).toInt) := ⟨q, g, j1, zw_Sf hB hf', trivial, by rw [hn]⟩
            have hg := zw_Wg' hO hB hwo (s := 0) zw_L0 hw
            have hw0 := hwo 0 (by decide)
            exact Or.inr ⟨by omega, by omega, n + 1, _, _, hw, hn, by omega⟩
        · rw [pk_un hyi]; exact h1 y hy
      · by_cases hyi : y = i
        · subst hyi
          have := h2 y hy
          rw [pk_us]
          omega
        · rw [pk_un hyi]; exact h2 y hy
      · rw [pk_un (hpos j hj)]; exact h3 j hj
      · rw [pk_un hki]
        by_cases hbi : b = i
        · subst hbi; rw [pk_us, e]; exact Int.le_refl _
        · rw [pk_un hbi]; exact h4 b (by omega) hfb
theorem zx_least29 {post : Int32 → SX → Prop} {b : Nat} (hO : zw_O nx m o) (hod : od = nI m) (how : ∀ k, k < m → ow k = nI (o k)) (hB : zw_bd bo) (hwo : zy_wo co) (hfw : ∀ a, a < 6 → zw_is (fw a) (fun b => zw_F nx a b)) (hb : zw_L nx b)
    (hp : ∀ v re', zw_opt nx bo (fun b => (co b).toInt) 0 (fun s => s % 6 = b) v → post v (kn, lv, od, hc, co, bo, nx, dm, fw, bk, lp, ow, hs, we, il, re')) :
    ∃ n, wX_least_29 post (nI b) kn lv od hc n 0 co bo nx dm fw bk lp ow hs we il re := by
  have hb6 := zw_L6 hb
  have hm6 := hO.1
  have hw0 := hwo 0 (by decide)
  refine loop_0 (fun n i s => wX_least_29 post (nI b) kn lv od hc n (nI i) co bo nx dm fw bk lp ow hs we il s) (fun i s => ∀ y, y < i → s y = 1000000) 6 re (fun b hb => absurd hb (by omega)) ?_ ?_
  · intro n s hI
    refine br_t zw_66 (nm_e ?_)
    refine loop_0 (fun n i s => wX_least_63 post (nI b) kn lv od hc n (nI i) co bo nx dm fw bk lp ow hs we il s)
      (fun i s => zx_lA nx bo co s ∧ (s 0).toInt ≤ (co 0).toInt ∧ ∀ j, j < i → j < m → ∀ y, zw_F nx (o j) y → (s y).toInt ≤ (s (o j)).toInt + (co y).toInt) m _ ⟨?_, ?_, fun j hj => absurd hj (by omega)⟩ ?_ ?_
    · intro y hy
      by_cases hy0 : y = 0
      · subst hy0
        rw [pk_us]
        exact Or.inr ⟨hw0.1, by omega, 0, 0, 0, ⟨rfl, rfl⟩, rfl, by omega⟩
      · rw [pk_un hy0, hI y hy]
        exact Or.inl (by decide)
    · rw [pk_us]; exact Int.le_refl _
    · rintro n s ⟨h1, h2, h3⟩
      refine br_t (by rw [hod]; exact nI_le (Nat.le_refl m) (by omega)) ⟨zw_i6 hb6, ?_⟩
      rw [zw_c6 hb6]
      refine hp _ s (zx_lend hO hB hwo h1 h2 (fun a y hf => ?_) hb)
      obtain ⟨j, hj, rfl⟩ := hO.2.2.2.2 a hf.2.1
      exact h3 j hj hj y hf
    · rintro n i s hi ⟨h1, h2, h3⟩ k
      have hi6 : i < 6 := by omega
      refine br_f (by rw [hod]; exact nI_ge hi (by omega)) ⟨zw_i6 hi6, nm_r (e' := nI (o i)) (by rw [zw_c6 hi6]; exact how i hi) ?_⟩
      refine zx_le81 hO hB hwo hfw hi h1 ?_
      intro s' g1 g2 g3 g4
      rw [nI_1]
      refine k s' ⟨g1, Int.le_trans (g2 0 (by decide)) h2, fun j hj hjm y hf => ?_⟩
      by_cases hji : j = i
      · subst hji; exact g4 y hf
      · rw [g3 j (by omega)]
        exact Int.le_trans (g2 y hf.1.2.1) (h3 j (by omega) hjm y hf)
  · intro n i s hi hI k
    refine br_f (zw_6 hi) ⟨zw_i6 hi, nm_r (e' := upd s i 1000000) (by rw [zw_c6 hi]) (nm_r (nI_1 i) (k _ ?_))⟩
    intro y hy
    by_cases hyi : y = i
    · subst hyi; exact pk_us
    · rw [pk_un hyi]; exact hI y (by omega)
end
end
section
/-! costFor: the border -/
theorem zw_optm {nx bo : Nat → Int32} {wt wt' : Nat → Int} {v v' : Int32} (h : ∀ b, b < 6 → wt b ≤ wt' b) (hv : zw_opt nx bo wt 1 (fun _ => True) v) (hv' : zw_opt nx bo wt' 1 (fun _ => True) v') : v.toInt ≤ v'.toInt := by
  have h0 : zw_W nx bo wt' (fun _ => True) 0 0 0 0 := ⟨rfl, rfl⟩
  have h0' : zw_W nx bo wt (fun _ => True) 0 0 0 0 := ⟨rfl, rfl⟩
  rcases hv with ⟨_, h2⟩ | ⟨⟨n, s, g, h1, _, h3⟩, _⟩
  · exact absurd trivial (h2 0 0 0 h0')
  · rcases hv' with ⟨_, h2⟩ | ⟨_, h4⟩
    · exact absurd trivial (h2 0 0 0 h0)
    · obtain ⟨g', hg, hw⟩ := zw_Wmono h h1
      have h5 := (h4 n s g' hw trivial).2 (by decide)
      have := h 0 (by decide)
      omega
def zw_cf (nx bo co : Nat → Int32) (b : Nat) (n l : Int) : Prop :=
  -1 ≤ l ∧ l ≤ 50 ∧ (0 ≤ l → ∃ v, zw_opt nx bo (zx_u (fun y => (co y).toInt) b l) 1 (fun _ => True) v ∧ v.toInt ≤ n) ∧
  (l < 50 → ∃ v, zw_opt nx bo (zx_u (fun y => (co y).toInt) b (l + 1)) 1 (fun _ => True) v ∧ n < v.toInt)
theorem zx_ule {f : Nat → Int} {b : Nat} {x y : Int} (h : x ≤ y) : ∀ w, w < 6 → zx_u f b x w ≤ zx_u f b y w := by
  intro w _
  by_cases hw : w = b
  · subst hw; rw [zx_us, zx_us]; exact h
  · rw [zx_un hw, zx_un hw]; exact Int.le_refl _
theorem zw_cfl {nx bo co : Nat → Int32} {b : Nat} {n l l' : Int} (h : zw_cf nx bo co b n l) (h' : zw_cf nx bo co b n l') : ¬ l < l' := by
  intro hl
  obtain ⟨h1, h2, h3, h4⟩ := h
  obtain ⟨h5, h6, h7, h8⟩ := h'
  obtain ⟨v, hv, hn⟩ := h4 (by omega)
  obtain ⟨v', hv', hn'⟩ := h7 (by omega)
  have := zw_optm (zx_ule (by omega)) hv hv'
  omega
theorem zw_cfu {nx bo co : Nat → Int32} {b : Nat} {n : Int} {l l' : Int32} (h : zw_cf nx bo co b n l.toInt) (h' : zw_cf nx bo co b n l'.toInt) : l = l' := by
  apply Int32.toInt_inj.mp
  have := zw_cfl h h'
  have := zw_cfl h' h
  omega
theorem zw_addg {x y : Int32} (hx : -1000 ≤ x.toInt ∧ x.toInt ≤ 1000) (hy : -1000 ≤ y.toInt ∧ y.toInt ≤ 1000) : (x + y).toInt = x.toInt + y.toInt := by
  rw [Int32.toInt_add]
  exact Int.bmod_eq_of_le (by omega) (by omega)
theorem zw_subg {x y : Int32} (hx : -1000 ≤ x.toInt ∧ x.toInt ≤ 1000) (hy : -1000 ≤ y.toInt ∧ y.toInt ≤ 1000) : (x - y).toInt = x.toInt - y.toInt := by
  rw [Int32.toInt_sub]
  exact Int.bmod_eq_of_le (by omega) (by omega)
theorem zw_mid {x y : Int32} (hx : -1 ≤ x.toInt ∧ x.toInt ≤ 50) (hy : -1 ≤ y.toInt ∧ y.toInt ≤ 50) : (((x + y) + 1) >>> ((1 : Int32) &&& 31)).toInt = (x.toInt + y.toInt + 1) / 2 := by
  have h1 : (1 : Int32).toInt = 1 := by decide
  have e1 := zw_addg (x := x) (y := y) (by omega) (by omega)
  rw [pk_shr _ _ 1 (by decide), zw_addg (by omega) (by omega), e1, h1, Int.shiftRight_eq_div_pow]
  rfl
section
variable {kn lv od hc : Int32} {co bo nx dm fw bk lp ow hs we il re : Nat → Int32} {m c : Nat} {o d : Nat → Nat}
theorem zx_costFor25 {post : Int32 → SX → Prop} {b : Nat} {n : Int32} (hb : b < 6) (hwo : zy_wo co) (K : ∀ we', zy_wo we' → zx_kx nx bo we' od hc fw lp ow hs m c o d) (hlv : zw_is lv (zw_L nx)) (hbk : ∀ h, h < 6 → zw_is (bk h) (fun a => zw_B nx a h))
    (hp : ∀ v we' il' re', zw_cf nx bo co b n.toInt v.toInt → post v (kn, lv, od, hc, co, bo, nx, dm, fw, bk, lp, ow, hs, we', il', re')) :
    ∃ k, wX_costFor_25 post (nI b) n k (-1) 50 0 kn lv od hc co bo nx dm fw bk lp ow hs we il re := by
  refine loop_0 (fun k i (s : Int32 × Int32 × (Nat → Int32) × (Nat → Int32) × (Nat → Int32)) => wX_costFor_25 post (nI b) n k s.1 s.2.1 (nI i) kn lv od hc co bo nx dm fw bk lp ow hs (s.2.2.1) (s.2.2.2.1) (s.2.2.2.2))
    (fun i s => (-1 ≤ s.1.toInt ∧ s.1.toInt ≤ s.2.1.toInt ∧ s.2.1.toInt ≤ 50) ∧ (s.2.1.toInt - s.1.toInt) * 2 ^ i ≤ 51 ∧
      (0 ≤ s.1.toInt → ∃ v, zw_opt nx bo (zx_u (fun y => (co y).toInt) b s.1.toInt) 1 (fun _ => True) v ∧ v.toInt ≤ n.toInt) ∧
      (s.2.1.toInt < 50 → ∃ v, zw_opt nx bo (zx_u (fun y => (co y).toInt) b (s.2.1.toInt + 1)) 1 (fun _ => True) v ∧ n.toInt < v.toInt)) 7 (-1, 50, we, il, re)
    ⟨(by decide : -1 ≤ (-1 : Int32).toInt ∧ (-1 : Int32).toInt ≤ (50 : Int32).toInt ∧ (50 : Int32).toInt ≤ 50), (by decide : ((50 : Int32).toInt - (-1 : Int32).toInt) * 2 ^ 0 ≤ 51), fun z => absurd z (by decide : ¬ 0 ≤ (-1 : Int32).toInt), fun z => absurd z (by decide : ¬ (50 : Int32).toInt < 50)⟩ ?_ ?_
  · rintro k ⟨low, high, we1, il1, re1⟩ ⟨h1, h2, h3, h4⟩
    dsimp only at h1 h2 h3 h4
    refine br_t (by decide) (hp low we1 il1 re1 ⟨h1.1, by omega, h3, fun z => ?_⟩)
    have he : high.toInt = low.toInt := by omega
    rw [he] at h4
    exact h4 z
  · rintro k i ⟨low, high, we1, il1, re1⟩ hi ⟨h1, h2, h3, h4⟩ kk
    dsimp only at h1 h2 h3 h4 kk ⊢
    refine br_f (nI_ge (b := 7) hi (by decide)) (br_c (fun z => hp low we1 il1 re1 ⟨h1.1, by omega, h3, fun y => ?_⟩) (fun z => ?_))
    · have hz := Int32.le_iff_toInt_le.mp z
      have he : high.toInt = low.toInt := by omega
      rw [he] at h4
      exact h4 y
    · have hlt := mt Int32.le_iff_toInt_le.mpr z
      have em := zw_mid (x := low) (y := high) (by omega) (by omega)
      intro mid hmid
      rw [← hmid] at em
      have hm0 : 0 ≤ mid.toInt ∧ mid.toInt ≤ 50 := by omega
      refine zx_useCosts ?_
      intro we2 hwe2
      refine ⟨zw_i6 hb, nm_r (e' := upd we2 b mid) (by rw [zw_c6 hb]) ?_⟩
      have hwm : ∀ y, y < 6 → (upd we2 b mid y).toInt = zx_u (fun y => (co y).toInt) b mid.toInt y := by
        intro y hy
        by_cases hyb : y = b
        · subst hyb; rw [pk_us, zx_us]
        · rw [pk_un hyb, zx_un hyb, hwe2 y hy]
      have hwo2 : zy_wo (upd we2 b mid) := by
        intro y hy
        by_cases hyb : y = b
        · subst hyb; rw [pk_us]; exact hm0
        · rw [pk_un hyb, hwe2 y hy]; exact hwo y hy
      refine zx_weigh (K _ hwo2) hlv hbk ?_
      intro il3 re3 hres
      refine zx_greatest hres (hwo2 0 (by decide)).1 ?_
      intro r hr0 hopt
      have hopt' := zw_optwt hwm hopt
      have hpow : ∀ dd : Int, 2 * dd ≤ high.toInt - low.toInt → dd * 2 ^ (i + 1) ≤ 51 := by
        intro dd hdd
        have e : dd * 2 ^ (i + 1) = (2 * dd) * 2 ^ i := by
          rw [Int.pow_succ, Int.mul_comm 2 dd, Int.mul_assoc, Int.mul_comm (2 ^ i) 2]
        rw [e]
        exact Int.le_trans (Int.mul_le_mul_of_nonneg_right hdd (Int.pow_nonneg (by decide))) h2
      have e1 : (1 : Int32).toInt = 1 := by decide
      refine br_c (fun hn => ?_) (fun hn => ?_)
      · have hn' := Int32.lt_iff_toInt_lt.mp hn
        have es : (mid - 1).toInt = mid.toInt - 1 := by rw [zw_subg (by omega) (by rw [e1]; omega), e1]
        refine nm_e (nm_r (nI_1 i) (kk (low, mid - 1, _, il3, re3) ⟨?_, ?_, h3, fun _ => ⟨r, ?_, hn'⟩⟩))
        · dsimp only; rw [es]; omega
        · dsimp only; rw [es]; exact hpow _ (by omega)
        · dsimp only; rw [es, show mid.toInt - 1 + 1 = mid.toInt by omega]; exact hopt'
      · have hn' := mt Int32.lt_iff_toInt_lt.mpr hn
        refine nm_r (nI_1 i) (kk (mid, high, _, il3, re3) ⟨?_, ?_, fun _ => ⟨r, hopt', by omega⟩, h4⟩)
        · dsimp only; omega
        · exact hpow _ (by dsimp only; omega)
/-! visits -/
theorem zx_visits53 {post : Int32 → SX → Prop} {b : Nat} (hb : b < 6) (K : ∀ we', zy_wo we' → zx_kx nx bo we' od hc fw lp ow hs m c o d) (hlv : zw_is lv (zw_L nx)) (hbk : ∀ h, h < 6 → zw_is (bk h) (fun a => zw_B nx a h))
    (hp : ∀ v we' il' re', zw_opt nx bo (fun y => if y = b then 1 else 0) 1 (fun _ => True) v → post v (kn, lv, od, hc, co, bo, nx, dm, fw, bk, lp, ow, hs, we', il', re')) :
    ∃ n, wX_visits_53 post (nI b) kn lv od hc n 0 co bo nx dm fw bk lp ow hs we il re := by
  refine loop_0 (fun n i s => wX_visits_53 post (nI b) kn lv od hc n (nI i) co bo nx dm fw bk lp ow hs s il re) (fun i s => ∀ y, y < i → (s y).toInt = if y = b then 1 else 0) 6 we (fun b hb => absurd hb (by omega)) ?_ ?_
  · intro n s hI
    have hwo : zy_wo s := by
      intro y hy
      rw [hI y hy]
      by_cases hyb : y = b
      · rw [if_pos hyb]; decide
      · rw [if_neg hyb]; decide
    refine br_t zw_66 (zx_weigh (K s hwo) hlv hbk ?_)
    intro il2 re2 hres
    refine zx_greatest hres (hwo 0 (by decide)).1 ?_
    intro r _ hopt
    exact hp r s il2 re2 (zw_optwt hI hopt)
  · intro n i s hi hI k
    refine br_f (zw_6 hi) (pk_eq i b (fun hib => ⟨zw_i6 hi, nm_r (e' := upd s i 1) (by rw [zw_c6 hi]) (nm_r (nI_1 i) (k _ ?_))⟩) (fun hib => ⟨zw_i6 hi, nm_r (e' := upd s i 0) (by rw [zw_c6 hi]) (nm_r (nI_1 i) (k _ ?_))⟩))
    · intro y hy
      by_cases hyi : y = i
      · subst hyi; rw [pk_us, if_pos hib]; decide
      · rw [pk_un hyi]; exact hI y (by omega)
    · intro y hy
      by_cases hyi : y = i
      · subst hyi; rw [pk_us, if_neg hib]; decide
      · rw [pk_un hyi]; exact hI y (by omega)
end
section
variable {pr mo nx ov wy be : Nat → Int32}
theorem zy_worstOfAll {post : Int32 → SY → Prop} (hnx : ∀ a, a < 6 → zw_S (nx a)) (hB : zw_bd mo) (hpo : zy_wo pr) (hO : ¬ zw_G nx → ∃ m o, zw_O nx m o)
    (h0 : zw_G nx → ∀ ov, post (-1) (pr, mo, nx, ov, wy, be)) (h1 : ¬ zw_G nx → ∀ v ov wy be, zw_opt nx mo (fun b => (pr b).toInt) 1 (fun _ => True) v → post v (pr, mo, nx, ov, wy, be)) : wpY_worstOfAll post (pr, mo, nx, ov, wy, be) :=
  zy_asked (sel := fun _ => True) (fun _ _ => ⟨fun _ => Or.inl (by decide), fun _ => trivial⟩) hnx hB hpo hO h0 h1
theorem zy_costFor31 {post : Int32 → SY → Prop} {b : Nat} {n : Int32} (hb : b < 6) (hnx : ∀ a, a < 6 → zw_S (nx a)) (hB : zw_bd mo) (hpo : zy_wo pr) (hg : ¬ zw_G nx) (hO : ¬ zw_G nx → ∃ m o, zw_O nx m o)
    (hp : ∀ v ov wy be, zw_cf nx mo pr b n.toInt v.toInt → post v (pr, mo, nx, ov, wy, be)) : ∃ k, wY_costFor_31 post (nI b) n (pr b) k (-1) 50 pr mo nx ov wy be := by
  have hback : ∀ pr1 z, pr1 = upd pr b z → upd pr1 (nI b).toNatClampNeg (pr b) = pr := by
    intro pr1 z e
    rw [e, zw_c6 hb]
    funext y
    by_cases hyb : y = b
    · subst hyb; rw [pk_us]
    · rw [pk_un hyb, pk_un hyb]
  refine loop_0 (fun k i (s : Int32 × Int32 × (Nat → Int32) × (Nat → Int32) × (Nat → Int32) × (Nat → Int32)) => wY_costFor_31 post (nI b) n (pr b) k s.1 s.2.1 (s.2.2.1) mo nx (s.2.2.2.1) (s.2.2.2.2.1) (s.2.2.2.2.2))
    (fun i s => s.2.1.toInt = 50 - (i : Int) ∧ (∃ z, s.2.2.1 = upd pr b z) ∧
      ((s.1.toInt = -1 ∧ (0 < i → ∃ v, zw_opt nx mo (zx_u (fun y => (pr y).toInt) b (51 - (i : Int))) 1 (fun _ => True) v ∧ n.toInt < v.toInt)) ∨ (0 ≤ s.1.toInt ∧ zw_cf nx mo pr b n.toInt s.1.toInt))) 51 (-1, 50, pr, ov, wy, be)
    ⟨(by decide : (50 : Int32).toInt = 50 - ((0 : Nat) : Int)), ⟨pr b, ?_⟩, Or.inl ⟨(by decide : (-1 : Int32).toInt = -1), fun z => absurd z (by decide)⟩⟩ ?_ ?_
  · funext y
    by_cases hyb : y = b
    · subst hyb; rw [pk_us]
    · rw [pk_un hyb]
  · rintro k ⟨x4, x5, pr1, ov1, wy1, be1⟩ ⟨h1, ⟨z, h2⟩, h3⟩
    dsimp only at h1 h2 h3
    have hx5 : x5 < 0 := zw_lt0.mpr (by clear h3; omega)
    refine br_t hx5 ⟨zw_i6 hb, nm_r (hback pr1 z h2) (hp x4 ov1 wy1 be1 ?_)⟩
    rcases h3 with ⟨h3, h4⟩ | ⟨_, h4⟩
    · rw [h3]
      refine ⟨by decide, by decide, fun z => absurd z (by decide), fun _ => ?_⟩
      exact h4 (by decide)
    · exact h4
  · rintro k i ⟨x4, x5, pr1, ov1, wy1, be1⟩ hi ⟨h1, ⟨z, h2⟩, h3⟩ kk
    dsimp only at h1 h2 h3 kk ⊢
    refine br_f (fun y => by have := zw_lt0.mp y; omega) ?_
    refine br_c (fun hx4 => ⟨zw_i6 hb, nm_r (hback pr1 z h2) (hp x4 ov1 wy1 be1 ?_)⟩) (fun hx4 => ⟨zw_i6 hb, nm_r (e' := upd pr b x5) ?_ ?_⟩)
    · have : 0 ≤ x4.toInt := by
        have := Int32.le_iff_toInt_le.mp hx4
        rw [show (0 : Int32).toInt = 0 from by decide] at this
        exact this
      exact (h3.resolve_left (fun y => by omega)).2
    · rw [h2, zw_c6 hb]
      funext y
      by_cases hyb : y = b
      · subst hyb; rw [pk_us, pk_us]
      · rw [pk_un hyb, pk_un hyb, pk_un hyb]
    · have hx4' : x4.toInt < 0 := by
        have := mt Int32.le_iff_toInt_le.mpr hx4
        rw [show (0 : Int32).toInt = 0 from by decide] at this
        omega
      have h3' := h3.resolve_right (fun y => by omega)
      have hwm : ∀ y, y < 6 → (upd pr b x5 y).toInt = zx_u (fun y => (pr y).toInt) b (50 - (i : Int)) y := by
        intro y hy
        by_cases hyb : y = b
        · subst hyb; rw [pk_us, zx_us]; exact h1
        · rw [pk_un hyb, zx_un hyb]
      have hpo2 : zy_wo (upd pr b x5) := by
        intro y hy
        by_cases hyb : y = b
        · subst hyb; rw [pk_us]; omega
        · rw [pk_un hyb]; exact hpo y hy
      refine zy_worstOfAll hnx hB hpo2 hO (fun g => absurd g hg) (fun _ r ov2 wy2 be2 hopt => ?_)
      have hopt' := zw_optwt hwm hopt
      have em : (x5 + (-1)).toInt = x5.toInt - 1 := by
        rw [zw_addg (by omega) (by decide), show (-1 : Int32).toInt = -1 from by decide]
        omega
      refine br_c (fun hn => nm_e (kk (x4, x5 + (-1), upd pr b x5, ov2, wy2, be2) ⟨?_, ⟨x5, rfl⟩, Or.inl ⟨h3'.1, fun _ => ⟨r, ?_, Int32.lt_iff_toInt_lt.mp hn⟩⟩⟩)) (fun hn => nm_e (kk (x5, x5 + (-1), upd pr b x5, ov2, wy2, be2) ⟨?_, ⟨x5, rfl⟩, Or.inr ⟨?_, ?_⟩⟩))
      · dsimp only; rw [em]; omega
      · rw [show (51 : Int) - ((i + 1 : Nat) : Int) = 50 - (i : Int) by omega]; exact hopt'
      · dsimp only; rw [em]; omega
      · dsimp only; omega
      · dsimp only
        have hn' := mt Int32.lt_iff_toInt_lt.mpr hn
        rw [h1]
        refine ⟨by omega, by omega, fun _ => ⟨r, hopt', by omega⟩, fun y => ?_⟩
        have h4 := h3'.2 (by omega)
        rw [show (50 : Int) - (i : Int) + 1 = 51 - (i : Int) by omega]
        exact h4
theorem zy_visits32 {post : Int32 → SY → Prop} {b m : Nat} {o : Nat → Nat} (hb : b < 6) (hO : zw_O nx m o) (hB : zw_bd mo) (hov : ∀ b, b < 6 → zw_is (ov b) (fun h => zw_D nx h b))
    (hp : ∀ v wy' be', zw_opt nx mo (fun y => if y = b then 1 else 0) 1 (fun _ => True) v → post v (pr, mo, nx, ov, wy', be')) : ∃ n, wY_visits_32 post (nI b) n 0 pr mo nx ov wy be := by
  refine loop_0 (fun n i s => wY_visits_32 post (nI b) n (nI i) pr mo nx ov s be) (fun i s => ∀ y, y < i → (s y).toInt = if y = b then 1 else 0) 6 wy (fun b hb => absurd hb (by omega)) ?_ ?_
  · intro n s hI
    have hwo : zy_wo s := by
      intro y hy
      rw [hI y hy]
      by_cases hyb : y = b
      · rw [if_pos hyb]; decide
      · rw [if_neg hyb]; decide
    refine br_t zw_66 (zy_follow (x := 1) hO hB hwo hov ?_)
    intro be2 hV hP
    refine zy_value (sel := fun _ => True) (fun _ _ => ⟨fun _ => Or.inl (by decide), fun _ => trivial⟩) hV hP hB hwo ?_
    intro v hopt
    exact hp v s be2 (zw_optwt hI hopt)
  · intro n i s hi hI k
    refine br_f (zw_6 hi) (pk_eq i b (fun hib => ⟨zw_i6 hi, nm_r (e' := upd s i 1) (by rw [zw_c6 hi]) (nm_r (nI_1 i) (k _ ?_))⟩) (fun hib => ⟨zw_i6 hi, nm_r (e' := upd s i 0) (by rw [zw_c6 hi]) (nm_r (nI_1 i) (k _ ?_))⟩))
    · intro y hy
      by_cases hyi : y = i
      · subst hyi; rw [pk_us, if_pos hib]; decide
      · rw [pk_un hyi]; exact hI y (by omega)
    · intro y hy
      by_cases hyi : y = i
      · subst hyi; rw [pk_us, if_neg hib]; decide
      · rw [pk_un hyi]; exact hI y (by omega)
end
end
section
/-! the relation -/
def zz_ok (kn lv od hc : Int32) (co bo nx dm fw bk lp ow hs : Nat → Int32) : Prop :=
  zy_wo co ∧ zw_bd bo ∧ (∀ a, a < 6 → zw_S (nx a)) ∧ (kn = 0 ∨ zx_Sh nx lv od hc dm fw bk lp ow hs)
/-- the same costs, bounds and edges; what the component has learnt is right for them -/
def i_Rel (_ : Nat) (u : SX) (v : SY) : Prop := match u, v with
  | (kn, lv, od, hc, co, bo, nx, dm, fw, bk, lp, ow, hs, we, il, re), (pr, mo, ny, _, _, _) => pr = co ∧ mo = bo ∧ ny = nx ∧ zz_ok kn lv od hc co bo nx dm fw bk lp ow hs
theorem zz_in {k : Nat} {kn lv od hc : Int32} {co bo nx dm fw bk lp ow hs we il re : Nat → Int32} {ov wy be : Nat → Int32} (h : zz_ok kn lv od hc co bo nx dm fw bk lp ow hs) : i_Rel k (kn, lv, od, hc, co, bo, nx, dm, fw, bk, lp, ow, hs, we, il, re) (co, bo, nx, ov, wy, be) := ⟨rfl, rfl, rfl, h⟩
theorem zz_el {P : SX → SY → Prop} {k : Nat} {u : SX} {v : SY}
    (h : ∀ kn lv od hc co bo nx dm fw bk lp ow hs we il re ov wy be, zz_ok kn lv od hc co bo nx dm fw bk lp ow hs → P (kn, lv, od, hc, co, bo, nx, dm, fw, bk, lp, ow, hs, we, il, re) (co, bo, nx, ov, wy, be)) (I : i_Rel k u v) : P u v := by
  obtain ⟨kn, lv, od, hc, co, bo, nx, dm, fw, bk, lp, ow, hs, we, il, re⟩ := u
  obtain ⟨pr, mo, ny, ov, wy, be⟩ := v
  obtain ⟨rfl, rfl, rfl, I⟩ := I
  exact h _ _ _ _ _ _ _ _ _ _ _ _ _ _ _ _ _ _ _ I
theorem i_up {k : Nat} {u : SX} {v : SY} (h : i_Rel k u v) : i_Rel (k + 3) u v := h
def zz_b (i : Nat) : Nat → Int32 := fun y => if y < i then 1 else 0
theorem zz_bs (i : Nat) : upd (zz_b i) i 1 = zz_b (i + 1) := by
  funext y
  unfold zz_b
  by_cases hy : y = i
  · subst hy
    rw [pk_us, if_pos (by omega)]
  · rw [pk_un hy]
    by_cases hl : y < i
    · rw [if_pos hl, if_pos (by omega)]
    · rw [if_neg hl, if_neg (by omega)]
theorem zz_b0 : (fun _ => 0 : Nat → Int32) = zz_b 0 := by
  funext y
  unfold zz_b
  rw [if_neg (by omega)]
theorem i_vc0 : wpX_init (fun u => wpY_init (fun v => i_Rel 0 u v)) := by
  unfold wpX_init
  refine loop_0 (fun n i (s : Nat → Int32) => wX_init_102 (fun u => wpY_init (fun v => i_Rel 0 u v)) 0 0 0 0 n (nI i) (fun _ => 0) s (fun _ => 0) (fun _ => 0) (fun _ => 0) (fun _ => 0) (fun _ => 0) (fun _ => 0) (fun _ => 0) (fun _ => 0) (fun _ => 0) (fun _ => 0)) (fun i s => s = zz_b i) 6 (fun _ => 0) zz_b0 ?_ ?_
  · intro n s hI
    subst hI
    refine br_t zw_66 ?_
    unfold wpY_init
    refine loop_0 (fun n i (s : Nat → Int32) => wY_init_55 (fun v => i_Rel 0 _ v) n (nI i) (fun _ => 0) s (fun _ => 0) (fun _ => 0) (fun _ => 0) (fun _ => 0)) (fun i s => s = zz_b i) 6 (fun _ => 0) zz_b0 ?_ ?_
    · intro n s hI
      subst hI
      refine br_t zw_66 (zz_in ⟨fun b _ => (by decide : 0 ≤ (0 : Int32).toInt ∧ (0 : Int32).toInt ≤ 50), fun b hb => ?_, fun _ _ => zw_S0, Or.inl rfl⟩)
      have e : zz_b 6 b = 1 := if_pos hb
      rw [e]
      decide
    · intro n i s hi hI k
      subst hI
      exact br_f (zw_6 hi) ⟨zw_i6 hi, nm_r (e' := zz_b (i + 1)) (by rw [zw_c6 hi, zz_bs]) (nm_r (nI_1 i) (k _ rfl))⟩
  · intro n i s hi hI k
    subst hI
    have e1 : vp_nar .byte 1 = 1 := by rw [vp_nar_byte]; decide
    exact br_f (zw_6 hi) ⟨zw_i6 hi, nm_r (e' := zz_b (i + 1)) (by rw [zw_c6 hi, e1, zz_bs]) (nm_r (nI_1 i) (k _ rfl))⟩
/-! the program -/
theorem i_vc_cost {k : Nat} {u : SX} {v : SY} (I : i_Rel k u v) (hk : k + 3 ≤ 1536) (v1 : Int32) (v2 : Int32) : wpX_cost (fun r u' => wpY_cost (fun r' v' => r' = r ∧ i_Rel (k + 3) u' v') v v1 v2) u v1 v2 := by
  refine zz_el (P := fun u v => wpX_cost (fun r u' => wpY_cost (fun r' v' => r' = r ∧ i_Rel (k + 3) u' v') v v1 v2) u v1 v2) ?_ I
  intro kn lv od hc co bo nx dm fw bk lp ow hs we il re ov wy be h
  unfold wpX_cost
  rcases zw_blk v1 with hb | ⟨j, hj, rfl⟩
  · exact zx_nblk hb (by unfold wpY_cost; exact zy_nblk hb (br_t rfl ⟨rfl, zz_in h⟩))
  · refine zx_blk hj ?_
    by_cases h0 : v2 < 0
    · exact br_t h0 (by unfold wpY_cost; exact zy_blk hj (br_f (by decide) (br_t h0 ⟨rfl, zz_in h⟩)))
    · by_cases h5 : v2 ≤ 50
      · obtain ⟨c, hc, rfl⟩ := nI_of2 (M := 50) (n := 50) (by decide) h0 h5
        refine br_f h0 (br_t h5 ⟨zw_i6 hj, nm_r (e' := upd co j (nI c)) (by rw [zw_c6 hj, zw_nar8 (by omega)]) ?_⟩)
        unfold wpY_cost
        refine zy_blk hj (br_f (by decide) (br_f h0 (br_t h5 ⟨zw_i6 hj, nm_r (e' := upd co j (nI c)) (by rw [zw_c6 hj]) ⟨rfl, zz_in ⟨?_, h.2⟩⟩⟩)))
        intro b hb
        by_cases hbj : b = j
        · subst hbj; rw [pk_us, nI_toInt (by omega)]; omega
        · rw [pk_un hbj]; exact h.1 b hb
      · exact br_f h0 (br_f h5 (by unfold wpY_cost; exact zy_blk hj (br_f (by decide) (br_f h0 (br_f h5 ⟨rfl, zz_in h⟩)))))
theorem i_vc_bound {k : Nat} {u : SX} {v : SY} (I : i_Rel k u v) (hk : k + 3 ≤ 1536) (v1 : Int32) (v2 : Int32) : wpX_bound (fun r u' => wpY_bound (fun r' v' => r' = r ∧ i_Rel (k + 3) u' v') v v1 v2) u v1 v2 := by
  refine zz_el (P := fun u v => wpX_bound (fun r u' => wpY_bound (fun r' v' => r' = r ∧ i_Rel (k + 3) u' v') v v1 v2) u v1 v2) ?_ I
  intro kn lv od hc co bo nx dm fw bk lp ow hs we il re ov wy be h
  unfold wpX_bound
  rcases zw_blk v1 with hb | ⟨j, hj, rfl⟩
  · exact zx_nblk hb (by unfold wpY_bound; exact zy_nblk hb (br_t rfl ⟨rfl, zz_in h⟩))
  · refine zx_blk hj ?_
    by_cases h0 : v2 < 1
    · exact br_t h0 (by unfold wpY_bound; exact zy_blk hj (br_f (by decide) (br_t h0 ⟨rfl, zz_in h⟩)))
    · by_cases h5 : v2 ≤ 3
      · have hv : ¬ v2 < 0 := by
          intro z
          apply h0
          rw [Int32.lt_iff_toInt_lt] at z ⊢
          rw [show (0 : Int32).toInt = 0 from by decide] at z
          rw [show (1 : Int32).toInt = 1 from by decide]
          omega
        obtain ⟨c, hc, rfl⟩ := nI_of2 (M := 3) (n := 3) (by decide) hv h5
        refine br_f h0 (br_t h5 ⟨zw_i6 hj, nm_r (e' := upd bo j (nI c)) (by rw [zw_c6 hj, zw_nar8 (by omega)]) ?_⟩)
        unfold wpY_bound
        refine zy_blk hj (br_f (by decide) (br_f h0 (br_t h5 ⟨zw_i6 hj, nm_r (e' := upd bo j (nI c)) (by rw [zw_c6 hj]) ⟨rfl, zz_in ⟨h.1, ?_, h.2.2⟩⟩⟩)))
        have hc1 : 1 ≤ c := by
          apply Classical.byContradiction
          intro z
          exact h0 (nI_lt (b := 1) (by omega) (by decide))
        intro b hb
        by_cases hbj : b = j
        · subst hbj; rw [pk_us, nI_toInt (by omega)]; omega
        · rw [pk_un hbj]; exact h.2.1 b hb
      · exact br_f h0 (br_f h5 (by unfold wpY_bound; exact zy_blk hj (br_f (by decide) (br_f h0 (br_f h5 ⟨rfl, zz_in h⟩)))))
theorem zz_nx {nx : Nat → Int32} {j : Nat} {w : Int32} (h : ∀ a, a < 6 → zw_S (nx a)) (hw : zw_S w) : ∀ a, a < 6 → zw_S (upd nx j w a) := by
  intro a ha
  by_cases haj : a = j
  · subst haj; rw [pk_us]; exact hw
  · rw [pk_un haj]; exact h a ha
theorem i_vc_join {k : Nat} {u : SX} {v : SY} (I : i_Rel k u v) (hk : k + 3 ≤ 1536) (v1 : Int32) (v2 : Int32) : wpX_join (fun r u' => wpY_join (fun r' v' => r' = r ∧ i_Rel (k + 3) u' v') v v1 v2) u v1 v2 := by
  refine zz_el (P := fun u v => wpX_join (fun r u' => wpY_join (fun r' v' => r' = r ∧ i_Rel (k + 3) u' v') v v1 v2) u v1 v2) ?_ I
  intro kn lv od hc co bo nx dm fw bk lp ow hs we il re ov wy be h
  unfold wpX_join
  rcases zw_blk v1 with hb | ⟨a, ha, rfl⟩
  · exact zx_nblk hb (by unfold wpY_join; exact zy_nblk hb (br_t rfl ⟨rfl, zz_in h⟩))
  · refine zx_blk ha ?_
    rcases zw_blk v2 with hb | ⟨b, hb, rfl⟩
    · exact zx_nblk hb (by unfold wpY_join; exact zy_blk ha (br_f (by decide) (zy_nblk hb (br_t rfl ⟨rfl, zz_in h⟩))))
    · refine zx_blk hb (br_c (fun he => ?_) (fun he => ?_))
      · unfold wpY_join
        exact zy_blk ha (br_f (by decide) (zy_blk hb (br_f (by decide) (br_t he ⟨rfl, zz_in h⟩))))
      · have hS : zw_S (nx a ||| ((1 : Int32) <<< (nI b &&& 31))) := zw_Sor (h.2.2.1 a ha) (zw_Sone hb)
        refine ⟨zw_i6 ha, zw_i6 ha, nm_r (e' := upd nx a (nx a ||| ((1 : Int32) <<< (nI b &&& 31)))) (by rw [zw_c6 ha, zw_nar hS]) ?_⟩
        unfold wpY_join
        exact zy_blk ha (br_f (by decide) (zy_blk hb (br_f (by decide) (br_f he ⟨zw_i6 ha, zw_i6 ha, nm_r (e' := upd nx a (nx a ||| ((1 : Int32) <<< (nI b &&& 31)))) (by rw [zw_c6 ha]) ⟨rfl, zz_in ⟨h.1, h.2.1, zz_nx h.2.2.1 hS, Or.inl rfl⟩⟩⟩))))
theorem i_vc_cut {k : Nat} {u : SX} {v : SY} (I : i_Rel k u v) (hk : k + 3 ≤ 1536) (v1 : Int32) (v2 : Int32) : wpX_cut (fun r u' => wpY_cut (fun r' v' => r' = r ∧ i_Rel (k + 3) u' v') v v1 v2) u v1 v2 := by
  refine zz_el (P := fun u v => wpX_cut (fun r u' => wpY_cut (fun r' v' => r' = r ∧ i_Rel (k + 3) u' v') v v1 v2) u v1 v2) ?_ I
  intro kn lv od hc co bo nx dm fw bk lp ow hs we il re ov wy be h
  unfold wpX_cut
  rcases zw_blk v1 with hb | ⟨a, ha, rfl⟩
  · exact zx_nblk hb (by unfold wpY_cut; exact zy_nblk hb (br_t rfl ⟨rfl, zz_in h⟩))
  · refine zx_blk ha ?_
    rcases zw_blk v2 with hb | ⟨b, hb, rfl⟩
    · exact zx_nblk hb (by unfold wpY_cut; exact zy_blk ha (br_f (by decide) (zy_nblk hb (br_t rfl ⟨rfl, zz_in h⟩))))
    · refine zx_blk hb ⟨zw_i6 ha, ?_⟩
      rw [zw_c6 ha]
      refine zx_in (by omega) (fun h0 => ?_) (fun h1 => ?_)
      · unfold wpY_cut
        refine zy_blk ha (br_f (by decide) (zy_blk hb (br_f (by decide) ⟨zw_i6 ha, ?_⟩)))
        rw [zw_c6 ha]
        exact br_t ((zw_in (by omega)).mpr h0) ⟨rfl, zz_in h⟩
      · have hS : zw_S (nx a &&& (((1 : Int32) <<< (nI b &&& 31)) ^^^ (-1))) := zw_Sand (h.2.2.1 a ha)
        refine ⟨zw_i6 ha, zw_i6 ha, nm_r (e' := upd nx a (nx a &&& (((1 : Int32) <<< (nI b &&& 31)) ^^^ (-1)))) (by rw [zw_nar hS]) ?_⟩
        unfold wpY_cut
        refine zy_blk ha (br_f (by decide) (zy_blk hb (br_f (by decide) ⟨zw_i6 ha, ?_⟩)))
        rw [zw_c6 ha]
        refine br_f (fun z => ?_) ⟨zw_i6 ha, zw_i6 ha, nm_e ⟨rfl, zz_in ⟨h.1, h.2.1, zz_nx h.2.2.1 hS, Or.inl rfl⟩⟩⟩
        rw [(zw_in (by omega)).mp z] at h1
        exact absurd h1 (by decide)
/-! shape -/
theorem i_vc_live {k : Nat} {u : SX} {v : SY} (I : i_Rel k u v) (hk : k + 3 ≤ 1536) : wpX_live (fun r u' => wpY_live (fun r' => r' = r ∧ i_Rel (k + 3) u' v) v) u := by
  refine zz_el (P := fun u v => wpX_live (fun r u' => wpY_live (fun r' => r' = r ∧ i_Rel (k + 3) u' v) v) u) ?_ I
  intro kn lv od hc co bo nx dm fw bk lp ow hs we il re ov wy be h
  unfold wpX_live
  refine zx_learn h.2.2.1 h.2.2.2 ?_
  intro kn lv od hc dm fw bk lp ow hs hkn hSh
  exact zy_live h.2.2.1 (fun r hr => ⟨zw_ise hr hSh.1, zz_in ⟨h.1, h.2.1, h.2.2.1, Or.inr hSh⟩⟩)
theorem i_vc_dominators {k : Nat} {u : SX} {v : SY} (I : i_Rel k u v) (hk : k + 3 ≤ 1536) (v1 : Int32) : wpX_dominators (fun r u' => wpY_dominators (fun r' => r' = r ∧ i_Rel (k + 3) u' v) v v1) u v1 := by
  refine zz_el (P := fun u v => wpX_dominators (fun r u' => wpY_dominators (fun r' => r' = r ∧ i_Rel (k + 3) u' v) v v1) u v1) ?_ I
  intro kn lv od hc co bo nx dm fw bk lp ow hs we il re ov wy be h
  unfold wpX_dominators
  rcases zw_blk v1 with hb | ⟨a, ha, rfl⟩
  · exact zx_nblk hb (zy_ndominators hb h.2.2.1 ⟨rfl, zz_in h⟩)
  · refine zx_blk ha ?_
    refine zx_learn h.2.2.1 h.2.2.2 ?_
    intro kn lv od hc dm fw bk lp ow hs hkn hSh
    refine ⟨zw_i6 ha, ?_⟩
    rw [zw_c6 ha]
    exact zy_dominators ha h.2.2.1 (fun r hr => ⟨zw_ise hr (hSh.2.1 a ha), zz_in ⟨h.1, h.2.1, h.2.2.1, Or.inr hSh⟩⟩)
theorem i_vc_regular {k : Nat} {u : SX} {v : SY} (I : i_Rel k u v) (hk : k + 3 ≤ 1536) : wpX_regular (fun r u' => wpY_regular (fun r' v' => r' = r ∧ i_Rel (k + 3) u' v') v) u := by
  refine zz_el (P := fun u v => wpX_regular (fun r u' => wpY_regular (fun r' v' => r' = r ∧ i_Rel (k + 3) u' v') v) u) ?_ I
  intro kn lv od hc co bo nx dm fw bk lp ow hs we il re ov wy be h
  unfold wpX_regular
  refine zx_isRegular h.2.2.1 h.2.2.2 ?_ ?_
  · intro kn lv od hc dm fw bk lp ow hs hkn hg hSh
    exact ⟨narrow_b1, zy_regular h.2.2.1 (fun ov' _ _ => ⟨rfl, zz_in ⟨h.1, h.2.1, h.2.2.1, Or.inr hSh⟩⟩) (fun ov' _ hg' => absurd hg' hg)⟩
  · intro kn lv od hc dm fw bk lp ow hs hkn hg hSh
    exact ⟨narrow_b0, zy_regular h.2.2.1 (fun ov' _ hg' => absurd hg hg') (fun ov' _ _ => ⟨rfl, zz_in ⟨h.1, h.2.1, h.2.2.1, Or.inr hSh⟩⟩)⟩
theorem i_vc_loop {k : Nat} {u : SX} {v : SY} (I : i_Rel k u v) (hk : k + 3 ≤ 1536) (v1 : Int32) : wpX_loop (fun r u' => wpY_loop (fun r' v' => r' = r ∧ i_Rel (k + 3) u' v') v v1) u v1 := by
  refine zz_el (P := fun u v => wpX_loop (fun r u' => wpY_loop (fun r' v' => r' = r ∧ i_Rel (k + 3) u' v') v v1) u v1) ?_ I
  intro kn lv od hc co bo nx dm fw bk lp ow hs we il re ov wy be h
  unfold wpX_loop
  rcases zw_blk v1 with hb | ⟨a, ha, rfl⟩
  · exact zx_nblk hb (zy_nloop hb h.2.2.1 (fun ov' => ⟨rfl, zz_in h⟩))
  · refine zx_blk ha ?_
    refine zx_learn h.2.2.1 h.2.2.2 ?_
    intro kn lv od hc dm fw bk lp ow hs hkn hSh
    refine ⟨zw_i6 ha, ?_⟩
    rw [zw_c6 ha]
    exact zy_loop ha h.2.2.1 (fun ov' r hr => ⟨zw_ise hr (hSh.2.2.2.2.1 a ha), zz_in ⟨h.1, h.2.1, h.2.2.1, Or.inr hSh⟩⟩)
/-! weights -/
theorem zz_O {nx ow : Nat → Int32} {od : Int32} (h : zx_Or nx od ow) : ¬ zw_G nx → ∃ m o, zw_O nx m o := by
  intro hg
  obtain ⟨m, o, _, _, _, _, hO⟩ := h
  exact ⟨m, o, hO hg⟩
theorem zz_K {nx bo dm fw bk lp ow hs : Nat → Int32} {lv od hc : Int32} (hS : zx_Sh nx lv od hc dm fw bk lp ow hs) (hg : ¬ zw_G nx) (hB : zw_bd bo) : ∃ m c o d, ∀ we, zy_wo we → zx_kx nx bo we od hc fw lp ow hs m c o d := by
  obtain ⟨h1, h2, h3, h4, h5, ⟨m, o, e1, _, e2, _, e3⟩, ⟨c, d, f1, f2, f3⟩⟩ := hS
  exact ⟨m, c, o, d, fun we hw => ⟨e1, f1, e2, f2, e3 hg, f3, h5, h3, hB, hw⟩⟩
theorem zz_res {nx bo we co re : Nat → Int32} {b : Nat} (hb : b < 6) (hwe : ∀ b, b < 6 → we b = co b) (hr : zx_res nx bo we re) :
    ((re b).toInt = -1000000 ∧ zw_opt nx bo (fun b => (co b).toInt) 1 (fun s => s % 6 = b) (-1)) ∨ (0 ≤ (re b).toInt ∧ zw_opt nx bo (fun b => (co b).toInt) 1 (fun s => s % 6 = b) (re b)) := by
  have hw : ∀ b, b < 6 → (fun b => (we b).toInt) b = (fun b => (co b).toInt) b := fun b hb => by dsimp only; rw [hwe b hb]
  rcases hr b hb with ⟨h1, h2⟩ | ⟨h1, ⟨n, s, g, j1, j2, j3⟩, h3⟩
  · exact Or.inl ⟨h1, zw_optwt hw (Or.inl ⟨by decide, h2⟩)⟩
  · exact Or.inr ⟨h1, zw_optwt hw (Or.inr ⟨⟨n, s, g, j1, j2, j3⟩, fun n s g hq hs => ⟨fun z => absurd z (by decide), fun _ => h3 n s g hq hs⟩⟩)⟩
theorem zz_sel {b : Nat} (hb : b < 6) : ∀ s, s < 4374 → (s % 6 = b ↔ (nI b < 0 ∨ nI (s % 6) = nI b)) := by
  intro s _
  rw [nI_eq (by omega) (by omega)]
  exact ⟨Or.inr, fun z => z.resolve_left (nI_pos (by omega))⟩
section
variable {k : Nat} {kn lv od hc : Int32} {co bo nx dm fw bk lp ow hs we il re : Nat → Int32} {ov wy be : Nat → Int32}
/-- the reference's answer to a question about block b -/
theorem zz_askY {b : Nat} {x r : Int32} (hb : b < 6) (h : zz_ok kn lv od hc co bo nx dm fw bk lp ow hs) (hg : ¬ zw_G nx) (hO : ¬ zw_G nx → ∃ m o, zw_O nx m o) (hr : zw_opt nx bo (fun b => (co b).toInt) x (fun s => s % 6 = b) r) :
    wpY_asked (fun r' v' => r' = r ∧ i_Rel k (kn, lv, od, hc, co, bo, nx, dm, fw, bk, lp, ow, hs, we, il, re) v') (co, bo, nx, ov, wy, be) (nI b) x :=
  zy_asked (zz_sel hb) h.2.2.1 h.2.1 h.1 hO (fun g => absurd g hg) (fun _ v ov wy be hv => ⟨zw_optu hv hr, zz_in h⟩)
theorem zz_askG {p x : Int32} (h : zz_ok kn lv od hc co bo nx dm fw bk lp ow hs) (hg : zw_G nx) :
    wpY_asked (fun r' v' => r' = -1 ∧ i_Rel k (kn, lv, od, hc, co, bo, nx, dm, fw, bk, lp, ow, hs, we, il, re) v') (co, bo, nx, ov, wy, be) p x := by
  unfold wpY_asked
  exact zy_regular h.2.2.1 (fun ov _ hg' => absurd hg hg') (fun ov _ _ => br_t rfl ⟨rfl, zz_in h⟩)
end
theorem i_vc_worst {k : Nat} {u : SX} {v : SY} (I : i_Rel k u v) (hk : k + 3 ≤ 1536) (v1 : Int32) : wpX_worst (fun r u' => wpY_worst (fun r' v' => r' = r ∧ i_Rel (k + 3) u' v') v v1) u v1 := by
  refine zz_el (P := fun u v => wpX_worst (fun r u' => wpY_worst (fun r' v' => r' = r ∧ i_Rel (k + 3) u' v') v v1) u v1) ?_ I
  intro kn lv od hc co bo nx dm fw bk lp ow hs we il re ov wy be h
  unfold wpX_worst
  rcases zw_blk v1 with hb | ⟨b, hb, rfl⟩
  · exact zx_nblk hb (by unfold wpY_worst; exact zy_nblk hb (br_t rfl ⟨rfl, zz_in h⟩))
  · refine zx_blk hb (zx_isRegular h.2.2.1 h.2.2.2 ?_ ?_)
    · intro kn lv od hc dm fw bk lp ow hs hkn hg hSh
      have h' : zz_ok kn lv od hc co bo nx dm fw bk lp ow hs := ⟨h.1, h.2.1, h.2.2.1, Or.inr hSh⟩
      obtain ⟨m, c, o, d, K⟩ := zz_K hSh hg h.2.1
      refine br_f (by decide) (zx_useCosts ?_)
      intro we hwe
      have hwo : zy_wo we := fun b hb => by rw [hwe b hb]; exact h.1 b hb
      refine zx_weigh (K we hwo) hSh.1 hSh.2.2.2.1 ?_
      intro il re hres
      refine ⟨zw_i6 hb, ?_⟩
      rw [zw_c6 hb]
      rcases zz_res hb hwe hres with ⟨hf, ho⟩ | ⟨hf, ho⟩
      · refine br_t (zw_far.mpr (by omega)) ?_
        unfold wpY_worst
        exact zy_blk hb (br_f (by decide) (zz_askY hb h' hg (zz_O hSh.2.2.2.2.2.1) ho))
      · refine br_f (fun z => by have := zw_far.mp z; omega) ⟨zw_i6 hb, ?_⟩
        unfold wpY_worst
        exact zy_blk hb (br_f (by decide) (zz_askY hb h' hg (zz_O hSh.2.2.2.2.2.1) ho))
    · intro kn lv od hc dm fw bk lp ow hs hkn hg hSh
      have h' : zz_ok kn lv od hc co bo nx dm fw bk lp ow hs := ⟨h.1, h.2.1, h.2.2.1, Or.inr hSh⟩
      refine br_t rfl ?_
      unfold wpY_worst
      exact zy_blk hb (br_f (by decide) (zz_askG h' hg))
theorem i_vc_worstOfAll {k : Nat} {u : SX} {v : SY} (I : i_Rel k u v) (hk : k + 3 ≤ 1536) : wpX_worstOfAll (fun r u' => wpY_worstOfAll (fun r' v' => r' = r ∧ i_Rel (k + 3) u' v') v) u := by
  refine zz_el (P := fun u v => wpX_worstOfAll (fun r u' => wpY_worstOfAll (fun r' v' => r' = r ∧ i_Rel (k + 3) u' v') v) u) ?_ I
  intro kn lv od hc co bo nx dm fw bk lp ow hs we il re ov wy be h
  unfold wpX_worstOfAll
  refine zx_isRegular h.2.2.1 h.2.2.2 ?_ ?_
  · intro kn lv od hc dm fw bk lp ow hs hkn hg hSh
    have h' : zz_ok kn lv od hc co bo nx dm fw bk lp ow hs := ⟨h.1, h.2.1, h.2.2.1, Or.inr hSh⟩
    obtain ⟨m, c, o, d, K⟩ := zz_K hSh hg h.2.1
    refine br_f (by decide) (zx_useCosts ?_)
    intro we hwe
    have hwo : zy_wo we := fun b hb => by rw [hwe b hb]; exact h.1 b hb
    refine zx_weigh (K we hwo) hSh.1 hSh.2.2.2.1 ?_
    intro il re hres
    refine zx_greatest hres (hwo 0 (by decide)).1 ?_
    intro r _ hopt
    have hopt' : zw_opt nx bo (fun b => (co b).toInt) 1 (fun _ => True) r := zw_optwt (fun b hb => by rw [hwe b hb]) hopt
    exact zy_worstOfAll h.2.2.1 h.2.1 h.1 (zz_O hSh.2.2.2.2.2.1) (fun g => absurd g hg) (fun _ v ov wy be hv => ⟨zw_optu hv hopt', zz_in h'⟩)
  · intro kn lv od hc dm fw bk lp ow hs hkn hg hSh
    have h' : zz_ok kn lv od hc co bo nx dm fw bk lp ow hs := ⟨h.1, h.2.1, h.2.2.1, Or.inr hSh⟩
    exact br_t rfl (zy_worstOfAll h.2.2.1 h.2.1 h.1 (fun g => absurd hg g) (fun _ ov => ⟨rfl, zz_in h'⟩) (fun g => absurd hg g))
theorem i_vc_least {k : Nat} {u : SX} {v : SY} (I : i_Rel k u v) (hk : k + 3 ≤ 1536) (v1 : Int32) : wpX_least (fun r u' => wpY_least (fun r' v' => r' = r ∧ i_Rel (k + 3) u' v') v v1) u v1 := by
  refine zz_el (P := fun u v => wpX_least (fun r u' => wpY_least (fun r' v' => r' = r ∧ i_Rel (k + 3) u' v') v v1) u v1) ?_ I
  intro kn lv od hc co bo nx dm fw bk lp ow hs we il re ov wy be h
  unfold wpX_least
  rcases zw_blk v1 with hb | ⟨b, hb, rfl⟩
  · exact zx_nblk hb (by unfold wpY_least; exact zy_nblk hb (br_t rfl ⟨rfl, zz_in h⟩))
  · refine zx_blk hb (zx_isRegular h.2.2.1 h.2.2.2 ?_ ?_)
    · intro kn lv od hc dm fw bk lp ow hs hkn hg hSh
      have h' : zz_ok kn lv od hc co bo nx dm fw bk lp ow hs := ⟨h.1, h.2.1, h.2.2.1, Or.inr hSh⟩
      obtain ⟨m, c, o, d, K⟩ := zz_K hSh hg h.2.1
      have K1 := K co h.1
      refine br_f (by decide) (zx_in (by omega) (fun hl => ?_) (fun hl => ?_))
      · have hnl : ¬ zw_L nx b := (zw_isf hSh.1 hb).mp hl
        unfold wpY_least
        refine zy_blk hb (br_f (by decide) (zz_askY hb h' hg (zz_O hSh.2.2.2.2.2.1) (Or.inl ⟨by decide, fun n s g hw hs => hnl ?_⟩)))
        rw [← hs]
        exact zw_WL hw zw_L0
      · have hL : zw_L nx b := (hSh.1.2 b hb).mp hl
        refine zx_least29 K1.2.2.2.2.1 K1.1 K1.2.2.1 h.2.1 h.1 hSh.2.2.1 hL ?_
        intro v re ho
        unfold wpY_least
        exact zy_blk hb (br_f (by decide) (zz_askY hb h' hg (zz_O hSh.2.2.2.2.2.1) ho))
    · intro kn lv od hc dm fw bk lp ow hs hkn hg hSh
      have h' : zz_ok kn lv od hc co bo nx dm fw bk lp ow hs := ⟨h.1, h.2.1, h.2.2.1, Or.inr hSh⟩
      refine br_t rfl ?_
      unfold wpY_least
      exact zy_blk hb (br_f (by decide) (zz_askG h' hg))
theorem i_vc_visits {k : Nat} {u : SX} {v : SY} (I : i_Rel k u v) (hk : k + 3 ≤ 1536) (v1 : Int32) : wpX_visits (fun r u' => wpY_visits (fun r' v' => r' = r ∧ i_Rel (k + 3) u' v') v v1) u v1 := by
  refine zz_el (P := fun u v => wpX_visits (fun r u' => wpY_visits (fun r' v' => r' = r ∧ i_Rel (k + 3) u' v') v v1) u v1) ?_ I
  intro kn lv od hc co bo nx dm fw bk lp ow hs we il re ov wy be h
  unfold wpX_visits
  refine zx_isRegular h.2.2.1 h.2.2.2 ?_ ?_
  · intro kn lv od hc dm fw bk lp ow hs hkn hg hSh
    have h' : zz_ok kn lv od hc co bo nx dm fw bk lp ow hs := ⟨h.1, h.2.1, h.2.2.1, Or.inr hSh⟩
    obtain ⟨m, c, o, d, K⟩ := zz_K hSh hg h.2.1
    refine br_f (by decide) ?_
    rcases zw_blk v1 with hb | ⟨b, hb, rfl⟩
    · exact zx_nblk hb (by unfold wpY_visits; exact zy_nblk hb (br_t rfl ⟨rfl, zz_in h'⟩))
    · refine zx_blk hb (zx_in (by omega) (fun hl => ?_) (fun hl => ?_))
      · unfold wpY_visits
        refine zy_blk hb (br_f (by decide) (zy_live h.2.2.1 (fun r hr => ?_)))
        rw [zw_ise hr hSh.1]
        exact br_t ((zw_in (by omega)).mpr hl) ⟨rfl, zz_in h'⟩
      · refine zx_visits53 hb K hSh.1 hSh.2.2.2.1 ?_
        intro v we il re ho
        unfold wpY_visits
        refine zy_blk hb (br_f (by decide) (zy_live h.2.2.1 (fun r hr => ?_)))
        rw [zw_ise hr hSh.1]
        refine br_f (fun z => ?_) (zy_regular h.2.2.1 (fun ov hov _ => br_f (by decide) ?_) (fun ov _ hg' => absurd hg' hg))
        · rw [(zw_in (by omega)).mp z] at hl; exact absurd hl (by decide)
        · obtain ⟨m, o, hO⟩ := zz_O hSh.2.2.2.2.2.1 hg
          exact zy_visits32 hb hO h.2.1 hov (fun v' wy be ho' => ⟨zw_optu ho' ho, zz_in h'⟩)
  · intro kn lv od hc dm fw bk lp ow hs hkn hg hSh
    have h' : zz_ok kn lv od hc co bo nx dm fw bk lp ow hs := ⟨h.1, h.2.1, h.2.2.1, Or.inr hSh⟩
    refine br_t rfl ?_
    rcases zw_blk v1 with hb | ⟨b, hb, rfl⟩
    · exact zx_nblk hb (by unfold wpY_visits; exact zy_nblk hb (br_t rfl ⟨rfl, zz_in h'⟩))
    · refine zx_blk hb (zx_in (by omega) (fun hl => ?_) (fun hl => ?_))
      · unfold wpY_visits
        refine zy_blk hb (br_f (by decide) (zy_live h.2.2.1 (fun r hr => ?_)))
        rw [zw_ise hr hSh.1]
        exact br_t ((zw_in (by omega)).mpr hl) ⟨rfl, zz_in h'⟩
      · unfold wpY_visits
        refine zy_blk hb (br_f (by decide) (zy_live h.2.2.1 (fun r hr => ?_)))
        rw [zw_ise hr hSh.1]
        refine br_f (fun z => ?_) (zy_regular h.2.2.1 (fun ov _ hg' => absurd hg hg') (fun ov _ _ => br_t rfl ⟨rfl, zz_in h'⟩))
        rw [(zw_in (by omega)).mp z] at hl; exact absurd hl (by decide)
theorem i_vc_costFor {k : Nat} {u : SX} {v : SY} (I : i_Rel k u v) (hk : k + 3 ≤ 1536) (v1 : Int32) (v2 : Int32) : wpX_costFor (fun r u' => wpY_costFor (fun r' v' => r' = r ∧ i_Rel (k + 3) u' v') v v1 v2) u v1 v2 := by
  refine zz_el (P := fun u v => wpX_costFor (fun r u' => wpY_costFor (fun r' v' => r' = r ∧ i_Rel (k + 3) u' v') v v1 v2) u v1 v2) ?_ I
  intro kn lv od hc co bo nx dm fw bk lp ow hs we il re ov wy be h
  unfold wpX_costFor
  rcases zw_blk v1 with hb | ⟨b, hb, rfl⟩
  · exact zx_nblk hb (by unfold wpY_costFor; exact zy_nblk hb (br_t rfl ⟨rfl, zz_in h⟩))
  · refine zx_blk hb (zx_isRegular h.2.2.1 h.2.2.2 ?_ ?_)
    · intro kn lv od hc dm fw bk lp ow hs hkn hg hSh
      have h' : zz_ok kn lv od hc co bo nx dm fw bk lp ow hs := ⟨h.1, h.2.1, h.2.2.1, Or.inr hSh⟩
      obtain ⟨m, c, o, d, K⟩ := zz_K hSh hg h.2.1
      refine br_f (by decide) (zx_costFor25 hb h.1 K hSh.1 hSh.2.2.2.1 ?_)
      intro r we il re hcf
      unfold wpY_costFor
      refine zy_blk hb (br_f (by decide) (zy_regular h.2.2.1 (fun ov hov _ => br_f (by decide) ⟨zw_i6 hb, nm_r (e' := co b) (by rw [zw_c6 hb]) ?_⟩) (fun ov _ hg' => absurd hg' hg)))
      exact zy_costFor31 hb h.2.2.1 h.2.1 h.1 hg (zz_O hSh.2.2.2.2.2.1) (fun v ov wy be hv => ⟨zw_cfu hv hcf, zz_in h'⟩)
    · intro kn lv od hc dm fw bk lp ow hs hkn hg hSh
      have h' : zz_ok kn lv od hc co bo nx dm fw bk lp ow hs := ⟨h.1, h.2.1, h.2.2.1, Or.inr hSh⟩
      refine br_t rfl ?_
      unfold wpY_costFor
      exact zy_blk hb (br_f (by decide) (zy_regular h.2.2.1 (fun ov _ hg' => absurd hg hg') (fun ov _ _ => br_t rfl ⟨rfl, zz_in h'⟩)))
end
