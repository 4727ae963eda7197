section
/-! rows pasted from the kit's rows to paste (starting text): pk_ rows and the bt family -/
theorem pk_us {f : Nat → Int32} {k : Nat} {x : Int32} : upd f k x k = x := if_pos rfl
theorem pk_un {f : Nat → Int32} {k j : Nat} {x : Int32} (h : j ≠ k) : upd f k x j = f j := if_neg h
theorem pk_sub {a b : Nat} (h : b ≤ a) : nI a - nI b = nI (a - b) := by
  obtain ⟨c, rfl⟩ : ∃ c, a = c + b := ⟨a - b, by omega⟩
  rw [← nI_add, Int32.add_sub_cancel, Nat.add_sub_cancel]
theorem pk_m1 (n : Nat) : nI (n + 1) + (-1) = nI n := by
  rw [← nI_1, Int32.add_assoc, show (1 : Int32) + (-1) = 0 from rfl, Int32.add_zero]
theorem pk_mul (a b : Nat) : nI a * nI b = nI (a * b) := (Int32.ofNat_mul a b).symm
theorem pk_div {a d : Nat} (ha : a < 2 ^ 31) (h0 : 0 < d) (hd : d < 2 ^ 31) : nI a / nI d = nI (a / d) := by
  apply Int32.toInt_inj.mp
  rw [lg_idiv_nonneg (by rw [nI_toInt ha]; omega) (by rw [nI_toInt hd]; omega), nI_toInt ha, nI_toInt hd, nI_toInt (Nat.lt_of_le_of_lt (Nat.div_le_self a d) ha)]
  first | rfl | exact (Int.natCast_ediv _ _).symm
theorem pk_rem {a d : Nat} (ha : a < 2 ^ 31) (h0 : 0 < d) (hd : d < 2 ^ 31) : nI a - nI a / nI d * nI d = nI (a % d) := by
  rw [pk_div ha h0 hd, pk_mul, pk_sub (Nat.div_mul_le_self a d)]
  exact congrArg nI (by have := Nat.div_add_mod' a d; omega)
theorem pk_ix (x : Int32) {n : Nat} (hn : n < 2 ^ 31) : x < 0 ∨ nI n ≤ x ∨ ∃ j : Nat, j < n ∧ x = nI j := by
  by_cases h : x < 0
  · exact Or.inl h
  · obtain ⟨j, hj, rfl⟩ := nI_of h
    by_cases h2 : j < n
    · exact Or.inr (Or.inr ⟨j, h2, rfl⟩)
    · exact Or.inr (Or.inl (nI_le (by omega) hj))
theorem pk_le {x y : Int32} {A B : Prop} (a b : Nat) (f : a ≤ b → A) (g : b < a → B) (hx : x = nI a := by rfl) (hy : y = nI b := by rfl) (ha : a < 2 ^ 31 := by omega) (hb : b < 2 ^ 31 := by omega) : (x ≤ y → A) ∧ (¬ x ≤ y → B) := by
  subst hx hy
  rw [nI_leI ha hb]
  exact ⟨f, fun z => g (by omega)⟩
theorem pk_lt {x y : Int32} {A B : Prop} (a b : Nat) (f : a < b → A) (g : b ≤ a → B) (hx : x = nI a := by rfl) (hy : y = nI b := by rfl) (ha : a < 2 ^ 31 := by omega) (hb : b < 2 ^ 31 := by omega) : (x < y → A) ∧ (¬ x < y → B) := by
  subst hx hy
  rw [nI_ltI ha hb]
  exact ⟨f, fun z => g (by omega)⟩
theorem pk_eq {x y : Int32} {A B : Prop} (a b : Nat) (f : a = b → A) (g : a ≠ b → B) (hx : x = nI a := by rfl) (hy : y = nI b := by rfl) (ha : a < 2 ^ 31 := by omega) (hb : b < 2 ^ 31 := by omega) : (x = y → A) ∧ (¬ x = y → B) := by
  subst hx hy
  rw [nI_eq ha hb]
  exact ⟨f, g⟩
theorem pk_in {x : Int32} (n N : Nat) (h : n < N) (hx : x = nI n := by rfl) (hN : N < 2 ^ 31 := by omega) : vp_in x N := by
  subst hx
  exact vp_in_nI h hN
theorem pk_cl {x : Int32} (n : Nat) (hx : x = nI n := by rfl) (h : n < 2 ^ 31 := by omega) : x.toNatClampNeg = n := by
  subst hx
  exact nI_clamp h
theorem pk_tn {n : Nat} (h : n < 2 ^ 32) : (nI n).toBitVec.toNat = n := Nat.mod_eq_of_lt h
theorem pk_and (x : Int32) {m : Int32} (k : Nat) (hm : m.toBitVec.toNat = 2 ^ k - 1) : x &&& m = nI (x.toBitVec.toNat % 2 ^ k) := by
  apply Int32.toBitVec_inj.mp
  apply BitVec.eq_of_toNat_eq
  rw [Int32.toBitVec_and, BitVec.toNat_and, hm, Nat.and_two_pow_sub_one_eq_mod]
  show _ = (BitVec.ofNat 32 _).toNat
  rw [BitVec.toNat_ofNat]
  exact (Nat.mod_eq_of_lt (Nat.lt_of_le_of_lt (Nat.mod_le _ _) x.toBitVec.isLt)).symm
theorem pk_andN {n : Nat} (h : n < 2 ^ 32) {m : Int32} (k : Nat) (hm : m.toBitVec.toNat = 2 ^ k - 1) : nI n &&& m = nI (n % 2 ^ k) := by
  rw [pk_and _ k hm, pk_tn h]
theorem pk_andE (x : Int32) {m : Int32} (k : Nat) (hm : m.toBitVec.toNat = 2 ^ k - 1) : ∃ j : Nat, j < 2 ^ k ∧ x &&& m = nI j := ⟨_, Nat.mod_lt _ (Nat.two_pow_pos k), pk_and x k hm⟩
theorem pk_andIn (x : Int32) {m : Int32} (k : Nat) (hm : m.toBitVec.toNat = 2 ^ k - 1) (hk : k ≤ 30) : vp_in (x &&& m) (2 ^ k) := by
  obtain ⟨j, hj, e⟩ := pk_andE x k hm
  rw [e]
  exact vp_in_nI hj (Nat.lt_of_le_of_lt (Nat.pow_le_pow_right (by decide) hk) (by decide))
def bt (x : Int32) (i : Nat) : Bool := x.toBitVec.getLsbD i
theorem b_ext {x y : Int32} (h : ∀ i, i < 32 → bt x i = bt y i) : x = y := Int32.toBitVec_inj.mp (BitVec.eq_of_getLsbD_eq (fun i hi => h i hi))
theorem b_or (x y : Int32) (i : Nat) : bt (x ||| y) i = (bt x i || bt y i) := by unfold bt; rw [Int32.toBitVec_or, BitVec.getLsbD_or]
theorem b_and (x y : Int32) (i : Nat) : bt (x &&& y) i = (bt x i && bt y i) := by unfold bt; rw [Int32.toBitVec_and, BitVec.getLsbD_and]
theorem b_xor (x y : Int32) (i : Nat) : bt (x ^^^ y) i = (bt x i ^^ bt y i) := by unfold bt; rw [Int32.toBitVec_xor, BitVec.getLsbD_xor]
theorem b_big {x : Int32} {i : Nat} (h : 32 ≤ i) : bt x i = false := BitVec.getLsbD_of_ge _ _ h
theorem b_65535 (i : Nat) : bt 65535 i = decide (i < 16) := by
  rcases Nat.lt_or_ge i 32 with h | h
  · exact (by decide +kernel : ∀ i, i < 32 → bt 65535 i = decide (i < 16)) i h
  · rw [b_big h, decide_eq_false (by omega)]
theorem b_m1 : ∀ i, i < 32 → bt (-1) i = true := by decide +kernel
theorem b_0 (i : Nat) : bt 0 i = false := BitVec.getLsbD_zero
theorem s_l : ∀ n, n < 32 → ((nI n &&& 31).toBitVec.smod 32).toNat = n := by decide +kernel
theorem b_shl (n : Nat) (hn : n < 32) (x : Int32) {i : Nat} (hi : i < 32) : bt (x <<< (nI n &&& 31)) i = (decide (n ≤ i) && bt x (i - n)) := by
  unfold bt
  rw [Int32.toBitVec_shiftLeft]
  show (x.toBitVec <<< ((nI n &&& 31).toBitVec.smod 32).toNat).getLsbD i = _
  rw [s_l n hn, BitVec.getLsbD_shiftLeft]
  rcases Nat.lt_or_ge i n with h | h
  · simp [h, Nat.not_le.mpr h]
  · simp [hi, h, Nat.not_lt.mpr h]
theorem b_sshr (n : Nat) (hn : n < 32) (x : Int32) {i : Nat} (hi : i < 32) : bt (x >>> (nI n &&& 31)) i = if n + i < 32 then bt x (n + i) else bt x 31 := by
  unfold bt
  rw [Int32.toBitVec_shiftRight]
  show (x.toBitVec.sshiftRight ((nI n &&& 31).toBitVec.smod 32).toNat).getLsbD i = _
  rw [s_l n hn, BitVec.getLsbD_sshiftRight, BitVec.msb_eq_getLsbD_last]
  simp [hi]
end
section
/-! bits as statements, sums, counts -/
def tq_B (r : Int32) (y : Nat) : Prop := bt r y = true
theorem tq_or (a b : Int32) (y : Nat) : tq_B (a ||| b) y ↔ tq_B a y ∨ tq_B b y := by
  unfold tq_B; rw [b_or]; cases bt a y <;> cases bt b y <;> decide
theorem tq_and (a b : Int32) (y : Nat) : tq_B (a &&& b) y ↔ tq_B a y ∧ tq_B b y := by
  unfold tq_B; rw [b_and]; cases bt a y <;> cases bt b y <;> decide
theorem tq_lt {a : Int32} {y : Nat} (h : tq_B a y) : y < 32 := by
  rcases Nat.lt_or_ge y 32 with z | z
  · exact z
  · unfold tq_B at h; rw [b_big z] at h; exact absurd h (by decide)
theorem tq_andn (a b : Int32) (y : Nat) : tq_B (a &&& (b ^^^ (-1))) y ↔ tq_B a y ∧ ¬ tq_B b y := by
  rw [tq_and]
  constructor
  · rintro ⟨h1, h2⟩
    refine ⟨h1, ?_⟩
    unfold tq_B at h2 ⊢
    rw [b_xor, b_m1 y (tq_lt h1)] at h2
    revert h2; cases bt b y <;> decide
  · rintro ⟨h1, h2⟩
    refine ⟨h1, ?_⟩
    unfold tq_B at h2 ⊢
    rw [b_xor, b_m1 y (tq_lt h1)]
    revert h2; cases bt b y <;> decide
theorem tq_0 (y : Nat) : ¬ tq_B 0 y := by unfold tq_B; rw [b_0]; decide
theorem tq_b1 (i : Nat) : bt 1 i = decide (i = 0) := by
  rcases Nat.lt_or_ge i 32 with h | h
  · exact (by decide +kernel : ∀ i, i < 32 → bt 1 i = decide (i = 0)) i h
  · rw [b_big h, decide_eq_false (by omega)]
theorem tq_one {y : Nat} (hy : y < 32) (z : Nat) : tq_B ((1 : Int32) <<< (nI y &&& 31)) z ↔ z = y := by
  rcases Nat.lt_or_ge z 32 with h | h
  · unfold tq_B
    rw [b_shl y hy 1 h, tq_b1, Bool.and_eq_true, decide_eq_true_eq, decide_eq_true_eq]
    omega
  · constructor
    · intro q; have := tq_lt q; omega
    · intro q; omega
theorem tq_one1 (z : Nat) : tq_B 1 z ↔ z = 0 := by
  unfold tq_B; rw [tq_b1, decide_eq_true_eq]
theorem tq_w (y : Nat) : tq_B 65535 y ↔ y < 16 := by
  unfold tq_B; rw [b_65535, decide_eq_true_eq]
theorem tq_ext {a b : Int32} (h : ∀ y, tq_B a y ↔ tq_B b y) : a = b := by
  refine b_ext fun i _ => ?_
  have := h i
  unfold tq_B at this
  cases h1 : bt a i <;> cases h2 : bt b i <;> simp [h1, h2] at this ⊢
theorem tq_z {a : Int32} : a = 0 ↔ ∀ y, ¬ tq_B a y :=
  ⟨fun h y => by rw [h]; exact tq_0 y, fun h => tq_ext fun y => ⟨fun z => absurd z (h y), fun z => absurd z (tq_0 y)⟩⟩
theorem tq_nz {a : Int32} : ¬ a = 0 ↔ ∃ y, tq_B a y := by
  rw [tq_z]
  constructor
  · intro h; exact Classical.not_forall_not.mp h
  · rintro ⟨y, h⟩ z; exact z y h
noncomputable def tq_b (P : Prop) : Nat := @ite Nat P (Classical.propDecidable P) 1 0
theorem tq_bt {P : Prop} (h : P) : tq_b P = 1 := by unfold tq_b; rw [if_pos h]
theorem tq_bf {P : Prop} (h : ¬ P) : tq_b P = 0 := by unfold tq_b; rw [if_neg h]
theorem tq_ble (P : Prop) : tq_b P ≤ 1 := by
  rcases Classical.em P with h | h
  · rw [tq_bt h]; omega
  · rw [tq_bf h]; omega
theorem tq_bmono {P Q : Prop} (h : P → Q) : tq_b P ≤ tq_b Q := by
  rcases Classical.em P with hp | hp
  · rw [tq_bt hp, tq_bt (h hp)]; omega
  · rw [tq_bf hp]; omega
theorem tq_bc {P Q : Prop} (h : P ↔ Q) : tq_b P = tq_b Q := congrArg tq_b (propext h)
theorem tq_bitN (a : Int32) {y : Nat} (hy : y < 32) : (a >>> (nI y &&& 31)) &&& 1 = nI (tq_b (tq_B a y)) := by
  apply b_ext
  intro i hi
  rw [b_and, tq_b1]
  rcases Classical.em (tq_B a y) with h | h
  · rw [tq_bt h, show nI 1 = 1 from rfl, tq_b1]
    by_cases e : i = 0
    · subst e
      rw [b_sshr y hy a hi, if_pos (by omega), show y + 0 = y from rfl]
      unfold tq_B at h; rw [h]; rfl
    · rw [decide_eq_false e]; cases bt (a >>> (nI y &&& 31)) i <;> rfl
  · rw [tq_bf h, nI_0, b_0]
    by_cases e : i = 0
    · subst e
      rw [b_sshr y hy a hi, if_pos (by omega), show y + 0 = y from rfl]
      unfold tq_B at h
      cases z : bt a y
      · rfl
      · exact absurd z h
    · rw [decide_eq_false e]; cases bt (a >>> (nI y &&& 31)) i <;> rfl
theorem tq_bit (a : Int32) {y : Nat} (hy : y < 32) : (a >>> (nI y &&& 31)) &&& 1 = 1 ↔ tq_B a y := by
  rw [tq_bitN a hy]
  rcases Classical.em (tq_B a y) with h | h
  · rw [tq_bt h]; exact ⟨fun _ => h, fun _ => rfl⟩
  · rw [tq_bf h]; exact ⟨fun z => absurd z (by decide), fun z => absurd z h⟩
theorem tq_ab0 : ∀ x, x < 16 → ∀ y, y < 32 → bt (65535 &&& ((((2 : Int32) <<< (nI x &&& 31)) - 1) ^^^ (-1))) y = decide (x < y ∧ y < 16) := by decide +kernel
theorem tq_above {x : Nat} (hx : x < 16) (y : Nat) : tq_B (65535 &&& ((((2 : Int32) <<< (nI x &&& 31)) - 1) ^^^ (-1))) y ↔ x < y ∧ y < 16 := by
  rcases Nat.lt_or_ge y 32 with h | h
  · unfold tq_B; rw [tq_ab0 x hx y h, decide_eq_true_eq]
  · constructor
    · intro q; have := tq_lt q; omega
    · intro q; omega
/-! masks -/
def tq_m (c : Int32) : Nat := c.toBitVec.toNat % 16
theorem tq_m_lt (c : Int32) : tq_m c < 16 := Nat.mod_lt _ (by decide)
theorem tq_m_and (c : Int32) : c &&& 15 = nI (tq_m c) := pk_and c 4 (by decide)
theorem tq_m_nI {x : Nat} (h : x < 16) : tq_m (nI x) = x := by
  unfold tq_m; rw [pk_tn (by omega)]; omega
/-! sums -/
def tq_s (f : Nat → Nat) : Nat → Nat
  | 0 => 0
  | n + 1 => tq_s f n + f n
theorem tq_s_c {f g : Nat → Nat} : ∀ {n : Nat}, (∀ i, i < n → f i = g i) → tq_s f n = tq_s g n
  | 0, _ => rfl
  | n + 1, h => by
    show tq_s f n + f n = tq_s g n + g n
    rw [tq_s_c (fun i hi => h i (by omega)), h n (by omega)]
theorem tq_s_le {f g : Nat → Nat} : ∀ {n : Nat}, (∀ i, i < n → f i ≤ g i) → tq_s f n ≤ tq_s g n
  | 0, _ => Nat.le_refl _
  | n + 1, h => by
    have a := tq_s_le (f := f) (g := g) (n := n) (fun i hi => h i (by omega))
    have b := h n (by omega)
    show tq_s f n + f n ≤ tq_s g n + g n
    omega
theorem tq_s_lt {f g : Nat → Nat} {k : Nat} (hk : f k < g k) : ∀ {n : Nat}, (∀ i, i < n → f i ≤ g i) → k < n → tq_s f n < tq_s g n
  | 0, _, h => by omega
  | n + 1, h, hn => by
    show tq_s f n + f n < tq_s g n + g n
    have b := h n (by omega)
    rcases Nat.lt_or_ge k n with z | z
    · have a := tq_s_lt hk (n := n) (fun i hi => h i (by omega)) z
      omega
    · have e : k = n := by omega
      subst e
      have a := tq_s_le (f := f) (g := g) (n := k) (fun i hi => h i (by omega))
      omega
theorem tq_s_0 {f : Nat → Nat} : ∀ {n : Nat}, (∀ i, i < n → f i = 0) → tq_s f n = 0
  | 0, _ => rfl
  | n + 1, h => by
    show tq_s f n + f n = 0
    rw [tq_s_0 (fun i hi => h i (by omega)), h n (by omega)]
theorem tq_s_add (f : Nat → Nat) (a : Nat) : ∀ b, tq_s f (a + b) = tq_s f a + tq_s (fun x => f (a + x)) b
  | 0 => rfl
  | b + 1 => by
    show tq_s f (a + b) + f (a + b) = tq_s f a + (tq_s (fun x => f (a + x)) b + f (a + b))
    rw [tq_s_add f a b]; omega
theorem tq_s_bd {f : Nat → Nat} {c : Nat} : ∀ {n : Nat}, (∀ i, i < n → f i ≤ c) → tq_s f n ≤ n * c
  | 0, _ => Nat.zero_le _
  | n + 1, h => by
    have a := tq_s_bd (f := f) (c := c) (n := n) (fun i hi => h i (by omega))
    have b := h n (by omega)
    show tq_s f n + f n ≤ (n + 1) * c
    rw [Nat.succ_mul]; omega
theorem tq_s_pl (f g : Nat → Nat) : ∀ n, tq_s (fun i => f i + g i) n = tq_s f n + tq_s g n
  | 0 => rfl
  | n + 1 => by
    show tq_s (fun i => f i + g i) n + (f n + g n) = tq_s f n + f n + (tq_s g n + g n)
    rw [tq_s_pl f g n]; omega
/-- a row's count; a set's count -/
noncomputable def tq_r (S : Nat → Prop) : Nat := tq_s (fun y => tq_b (S y)) 16
noncomputable def tq_N (S : Nat → Nat → Prop) : Nat := tq_s (fun i => tq_r (S i)) 256
theorem tq_r_c {S T : Nat → Prop} (h : ∀ y, y < 16 → (S y ↔ T y)) : tq_r S = tq_r T := tq_s_c fun y hy => tq_bc (h y hy)
theorem tq_r_bd (S : Nat → Prop) : tq_r S ≤ 16 := by
  have := tq_s_bd (f := fun y => tq_b (S y)) (c := 1) (n := 16) (fun _ _ => tq_ble _)
  unfold tq_r; omega
theorem tq_r_le {S T : Nat → Prop} (h : ∀ y, y < 16 → S y → T y) : tq_r S ≤ tq_r T := tq_s_le fun y hy => tq_bmono (h y hy)
theorem tq_r_lt {S T : Nat → Prop} (h : ∀ y, y < 16 → S y → T y) {y : Nat} (hy : y < 16) (hn : ¬ S y) (ht : T y) : tq_r S < tq_r T :=
  tq_s_lt (k := y) (by show tq_b (S y) < tq_b (T y); rw [tq_bf hn, tq_bt ht]; omega) (fun z hz => tq_bmono (h z hz)) hy
theorem tq_r_0 {S : Nat → Prop} (h : ∀ y, y < 16 → ¬ S y) : tq_r S = 0 := tq_s_0 fun y hy => tq_bf (h y hy)
theorem tq_N_bd (S : Nat → Nat → Prop) : tq_N S ≤ 4096 := by
  have := tq_s_bd (f := fun i => tq_r (S i)) (c := 16) (n := 256) (fun _ _ => tq_r_bd _)
  unfold tq_N; omega
theorem tq_N_le {S T : Nat → Nat → Prop} (h : ∀ i, i < 256 → ∀ y, y < 16 → S i y → T i y) : tq_N S ≤ tq_N T := tq_s_le fun i hi => tq_r_le (h i hi)
theorem tq_N_lt {S T : Nat → Nat → Prop} (h : ∀ i, i < 256 → ∀ y, y < 16 → S i y → T i y) {i y : Nat} (hi : i < 256) (hy : y < 16) (hn : ¬ S i y) (ht : T i y) : tq_N S < tq_N T :=
  tq_s_lt (k := i) (tq_r_lt (h i hi) hy hn ht) (fun z hz => tq_r_le (h z hz)) hi
theorem tq_N_c {S T : Nat → Nat → Prop} (h : ∀ i, i < 256 → ∀ y, y < 16 → (S i y ↔ T i y)) : tq_N S = tq_N T := tq_s_c fun i hi => tq_r_c (h i hi)
/-- the block of sixteen rows of p -/
theorem tq_blk (g : Nat → Nat) {p : Nat} (hp : p < 16) : tq_s (fun j => if j / 16 = p then g j else 0) 256 = tq_s (fun x => g (p * 16 + x)) 16 := by
  have e : (256 : Nat) = p * 16 + (16 + (240 - p * 16)) := by omega
  rw [e, tq_s_add, tq_s_add]
  have h1 : tq_s (fun j => if j / 16 = p then g j else 0) (p * 16) = 0 := tq_s_0 fun i hi => if_neg (by omega)
  have h2 : tq_s (fun x => (fun x => if (p * 16 + x) / 16 = p then g (p * 16 + x) else 0) (16 + x)) (240 - p * 16) = 0 := tq_s_0 fun i hi => if_neg (by omega)
  have h3 : tq_s (fun x => if (p * 16 + x) / 16 = p then g (p * 16 + x) else 0) 16 = tq_s (fun x => g (p * 16 + x)) 16 := tq_s_c fun i hi => if_pos (by omega)
  rw [h1, h2, h3]; omega
end
section
/-! the plain law: levels, and the greatest set of states that go on for ever -/
section
variable {R : Nat → Nat → Nat → Nat → Prop} {I : Nat → Nat → Prop}
/-- level k's new states, and all up to it -/
def tl_p (R : Nat → Nat → Nat → Nat → Prop) (I : Nat → Nat → Prop) : Nat → (Nat → Nat → Prop) × (Nat → Nat → Prop)
  | 0 => (I, I)
  | k + 1 => (fun j z => (∃ i y, (tl_p R I k).1 i y ∧ R i y j z) ∧ ¬ (tl_p R I k).2 j z,
      fun j z => (tl_p R I k).2 j z ∨ ((∃ i y, (tl_p R I k).1 i y ∧ R i y j z) ∧ ¬ (tl_p R I k).2 j z))
def tl_F (R : Nat → Nat → Nat → Nat → Prop) (I : Nat → Nat → Prop) (k i y : Nat) : Prop := (tl_p R I k).1 i y
/-- found before level k -/
def tl_H (R : Nat → Nat → Nat → Nat → Prop) (I : Nat → Nat → Prop) (k i y : Nat) : Prop := ∃ m, m < k ∧ tl_F R I m i y
def tl_R (R : Nat → Nat → Nat → Nat → Prop) (I : Nat → Nat → Prop) (i y : Nat) : Prop := ∃ m, tl_F R I m i y
theorem tl_2 : ∀ k i y, (tl_p R I k).2 i y ↔ tl_H R I (k + 1) i y
  | 0, i, y => ⟨fun h => ⟨0, by omega, h⟩, fun ⟨m, hm, h⟩ => by
      have e : m = 0 := by omega
      subst e; exact h⟩
  | k + 1, i, y => by
    have ih := tl_2 k i y
    constructor
    · intro h
      rcases h with h | h
      · obtain ⟨m, hm, hh⟩ := ih.mp h
        exact ⟨m, by omega, hh⟩
      · exact ⟨k + 1, by omega, h⟩
    · rintro ⟨m, hm, hh⟩
      by_cases e : m = k + 1
      · subst e; exact Or.inr hh
      · exact Or.inl (ih.mpr ⟨m, by omega, hh⟩)
theorem tl_F0 (i y : Nat) : tl_F R I 0 i y ↔ I i y := Iff.rfl
theorem tl_Fs (k j z : Nat) : tl_F R I (k + 1) j z ↔ (∃ i y, tl_F R I k i y ∧ R i y j z) ∧ ¬ tl_H R I (k + 1) j z := by
  show (∃ i y, (tl_p R I k).1 i y ∧ R i y j z) ∧ ¬ (tl_p R I k).2 j z ↔ _
  rw [tl_2]
  exact Iff.rfl
theorem tl_H0 (i y : Nat) : ¬ tl_H R I 0 i y := fun ⟨_, h, _⟩ => by omega
theorem tl_Hs (k i y : Nat) : tl_H R I (k + 1) i y ↔ tl_H R I k i y ∨ tl_F R I k i y := by
  constructor
  · rintro ⟨m, hm, h⟩
    by_cases e : m = k
    · subst e; exact Or.inr h
    · exact Or.inl ⟨m, by omega, h⟩
  · rintro (⟨m, hm, h⟩ | h)
    · exact ⟨m, by omega, h⟩
    · exact ⟨k, by omega, h⟩
theorem tl_dis {k i y : Nat} (h : tl_F R I k i y) : ¬ tl_H R I k i y := by
  cases k with
  | zero => exact tl_H0 i y
  | succ k => exact ((tl_Fs k i y).mp h).2
/-- once nothing new, never again -/
theorem tl_end {k : Nat} (h : ∀ i y, ¬ tl_F R I k i y) : ∀ d i y, ¬ tl_F R I (k + d) i y
  | 0, i, y => h i y
  | d + 1, i, y => fun z => by
    obtain ⟨⟨a, b, h1, _⟩, _⟩ := (tl_Fs (k + d) i y).mp z
    exact tl_end h d a b h1
theorem tl_RH {k : Nat} (h : ∀ i y, ¬ tl_F R I k i y) (i y : Nat) : tl_H R I k i y ↔ tl_R R I i y := by
  constructor
  · rintro ⟨m, _, z⟩; exact ⟨m, z⟩
  · rintro ⟨m, z⟩
    rcases Nat.lt_or_ge m k with q | q
    · exact ⟨m, q, z⟩
    · exact absurd z (by rw [show m = k + (m - k) by omega]; exact tl_end h (m - k) i y)
theorem tl_dom {D : Nat → Nat → Prop} (hI : ∀ i y, I i y → D i y) (hR : ∀ i y j z, R i y j z → D i y → D j z) : ∀ k i y, tl_F R I k i y → D i y
  | 0, i, y, h => hI i y h
  | k + 1, i, y, h => by
    obtain ⟨⟨a, b, h1, h2⟩, _⟩ := (tl_Fs k i y).mp h
    exact hR a b i y h2 (tl_dom hI hR k a b h1)
theorem tl_grow (hD : ∀ k i y, tl_F R I k i y → i < 256 ∧ y < 16) : ∀ k, (∃ i y, tl_F R I k i y) → k + 1 ≤ tq_N (tl_H R I (k + 1))
  | 0, ⟨i, y, h⟩ => by
    have := tq_N_lt (S := tl_H R I 0) (T := tl_H R I 1) (fun a _ b _ z => absurd z (tl_H0 a b)) (hD 0 i y h).1 (hD 0 i y h).2 (tl_H0 i y) ((tl_Hs 0 i y).mpr (Or.inr h))
    show 1 ≤ tq_N (tl_H R I 1)
    omega
  | k + 1, ⟨i, y, h⟩ => by
    obtain ⟨⟨a, b, h1, _⟩, h2⟩ := (tl_Fs k i y).mp h
    have ih := tl_grow hD k ⟨a, b, h1⟩
    have := tq_N_lt (S := tl_H R I (k + 1)) (T := tl_H R I (k + 1 + 1)) (fun a _ b _ z => (tl_Hs _ a b).mpr (Or.inl z)) (hD _ i y h).1 (hD _ i y h).2 h2 ((tl_Hs _ i y).mpr (Or.inr h))
    omega
theorem tl_4096 (hD : ∀ k i y, tl_F R I k i y → i < 256 ∧ y < 16) {k : Nat} (hk : 4096 ≤ k) (i y : Nat) : ¬ tl_F R I k i y := fun h => by
  have h1 := tl_grow hD k ⟨i, y, h⟩
  have h2 := tq_N_bd (tl_H R I (k + 1))
  omega
/-- the first level at which a place is reached, -5 if none before k -/
def tl_P (R : Nat → Nat → Nat → Nat → Prop) (I : Nat → Nat → Prop) (m p : Nat) : Prop := ∃ i y, i / 16 = p ∧ tl_F R I m i y
def tl_1 (R : Nat → Nat → Nat → Nat → Prop) (I : Nat → Nat → Prop) (k p : Nat) (r : Int32) : Prop :=
  (r = -5 ∧ ∀ m, m < k → ¬ tl_P R I m p) ∨ (∃ m, m < k ∧ r = nI m ∧ tl_P R I m p ∧ ∀ m', m' < m → ¬ tl_P R I m' p)
def tl_1R (R : Nat → Nat → Nat → Nat → Prop) (I : Nat → Nat → Prop) (p : Nat) (r : Int32) : Prop :=
  (r = -5 ∧ ∀ m, ¬ tl_P R I m p) ∨ (∃ m, r = nI m ∧ tl_P R I m p ∧ ∀ m', m' < m → ¬ tl_P R I m' p)
theorem tl_1u {p : Nat} {r r' : Int32} (h : tl_1R R I p r) (h' : tl_1R R I p r') : r = r' := by
  rcases h with ⟨e, h⟩ | ⟨m, e, h1, h2⟩ <;> rcases h' with ⟨e', h'⟩ | ⟨m', e', h1', h2'⟩
  · rw [e, e']
  · exact absurd h1' (h m')
  · exact absurd h1 (h' m)
  · have : m = m' := by
      rcases Nat.lt_trichotomy m m' with z | z | z
      · exact absurd h1 (h2' m z)
      · exact z
      · exact absurd h1' (h2 m' z)
    rw [e, e', this]
theorem tl_1R_of {k p : Nat} {r : Int32} (hk : ∀ i y, ¬ tl_F R I k i y) (h : tl_1 R I k p r) : tl_1R R I p r := by
  rcases h with ⟨e, h⟩ | ⟨m, _, e, h1, h2⟩
  · refine Or.inl ⟨e, fun m => ?_⟩
    rcases Nat.lt_or_ge m k with q | q
    · exact h m q
    · rintro ⟨i, y, _, z⟩
      exact absurd z (by rw [show m = k + (m - k) by omega]; exact tl_end hk (m - k) i y)
  · exact Or.inr ⟨m, e, h1, h2⟩
theorem tl_m5 {m : Nat} (h : m < 2 ^ 31) : ¬ nI m = -5 := fun e => by
  have h1 := congrArg Int32.toInt e
  rw [nI_toInt h, show (-5 : Int32).toInt = -5 by decide] at h1
  omega
/-- one level on: the place is reached in it, or not -/
theorem tl_1s_n {k p : Nat} {r : Int32} (h : tl_1 R I k p r) (hn : ¬ tl_P R I k p) : tl_1 R I (k + 1) p r := by
  rcases h with ⟨e, h⟩ | ⟨m, hm, e, h1, h2⟩
  · refine Or.inl ⟨e, fun m hm => ?_⟩
    by_cases q : m = k
    · subst q; exact hn
    · exact h m (by omega)
  · exact Or.inr ⟨m, by omega, e, h1, h2⟩
theorem tl_1s_o {k p : Nat} {r : Int32} (h : tl_1 R I k p r) (hr : ¬ r = -5) : tl_1 R I (k + 1) p r := by
  rcases h with ⟨e, h⟩ | ⟨m, hm, e, h1, h2⟩
  · exact absurd e hr
  · exact Or.inr ⟨m, by omega, e, h1, h2⟩
theorem tl_1s_y {k p : Nat} (h : tl_1 R I k p (-5)) (hk : k < 2 ^ 31) (hp : tl_P R I k p) : tl_1 R I (k + 1) p (nI k) := by
  rcases h with ⟨e, h⟩ | ⟨m, hm, e, h1, h2⟩
  · exact Or.inr ⟨k, by omega, rfl, hp, h⟩
  · exact absurd e.symm (tl_m5 (by omega))
/-! runs without end -/
def tl_PF (R : Nat → Nat → Nat → Nat → Prop) (T : Nat → Nat → Prop) : Prop := ∀ i y, T i y → ∃ j z, R i y j z ∧ T j z
def tl_BG (R : Nat → Nat → Nat → Nat → Prop) (A : Nat → Nat → Prop) (S : Nat → Nat → Prop) : Prop :=
  (∀ i y, S i y → A i y) ∧ ∀ T : Nat → Nat → Prop, (∀ i y, T i y → A i y) → tl_PF R T → ∀ i y, T i y → S i y
theorem tl_BG_u {A S T : Nat → Nat → Prop} (h : tl_BG R A S) (hp : tl_PF R S) (h' : tl_BG R A T) (hp' : tl_PF R T) (i y : Nat) : S i y ↔ T i y :=
  ⟨h'.2 S h.1 hp i y, h.2 T h'.1 hp' i y⟩
theorem tl_BG_0 (A : Nat → Nat → Prop) : tl_BG R A A := ⟨fun _ _ h => h, fun _ h _ => h⟩
theorem tl_BG_c {A S T : Nat → Nat → Prop} (h : tl_BG R A S) (e : ∀ i y, S i y ↔ T i y) : tl_BG R A T :=
  ⟨fun i y z => h.1 i y ((e i y).mpr z), fun U hU hp i y z => (e i y).mp (h.2 U hU hp i y z)⟩
/-- taking away from row r those that don't lead on -/
theorem tl_BG_s {A S T : Nat → Nat → Prop} {r : Nat} (h : tl_BG R A S) (h1 : ∀ i y, i ≠ r → (T i y ↔ S i y)) (h2 : ∀ y, T r y ↔ S r y ∧ ∃ j z, R r y j z ∧ S j z) : tl_BG R A T := by
  have hTS : ∀ i y, T i y → S i y := fun i y t => by
    by_cases e : i = r
    · subst e; exact ((h2 y).mp t).1
    · exact (h1 i y e).mp t
  refine ⟨fun i y t => h.1 i y (hTS i y t), fun U hU hp i y u => ?_⟩
  have hs := h.2 U hU hp
  by_cases e : i = r
  · subst e
    obtain ⟨j, z, q1, q2⟩ := hp i y u
    exact (h2 y).mpr ⟨hs i y u, j, z, q1, hs j z q2⟩
  · exact (h1 i y e).mpr (hs i y u)
end
end
section
/-! what an instruction does to a pair: traps, goes away, goes on -/
def ta_TR (o : Nat) (c : Int32) (x y : Nat) : Prop := (o = 6 ∧ y = 0) ∨ (o = 8 ∧ ¬ nI x < (c &&& 31))
def ta_AW (o x y : Nat) : Prop := o = 10 ∨ (o = 11 ∧ x = y) ∨ (o = 12 ∧ x < y) ∨ (o = 13 ∧ x = 0)
def ta_gx (o : Nat) (c : Int32) (x y : Nat) : Int32 :=
  if o = 0 then c else if o = 2 then nI x + c else if o = 3 then nI x + nI y else if o = 4 then nI x - nI y else if o = 5 then nI x * nI y else if o = 6 then nI x / nI y else if o = 7 then nI y else nI x
def ta_gy (o : Nat) (c : Int32) (x y : Nat) : Int32 := if o = 1 then c else if o = 7 then nI x else nI y
def ta_NX (o : Nat) (c : Int32) (x y x' y' : Nat) : Prop :=
  o ≠ 14 ∧ ¬ ta_TR o c x y ∧ ¬ ta_AW o x y ∧ x' = tq_m (ta_gx o c x y) ∧ ((o = 9 ∧ y' < 16) ∨ (o ≠ 9 ∧ y' = tq_m (ta_gy o c x y)))
theorem ta_NX_lt {o : Nat} {c : Int32} {x y x' y' : Nat} (h : ta_NX o c x y x' y') : x' < 16 ∧ y' < 16 := by
  obtain ⟨_, _, _, h1, h2⟩ := h
  refine ⟨by rw [h1]; exact tq_m_lt _, ?_⟩
  rcases h2 with ⟨_, h⟩ | ⟨_, h⟩
  · exact h
  · rw [h]; exact tq_m_lt _
theorem ta_nx0 (c : Int32) (x y x' y' : Nat) : ta_NX 0 c x y x' y' ↔ x' = tq_m c ∧ y' = tq_m (nI y) := by
  simp [ta_NX, ta_TR, ta_AW, ta_gx, ta_gy]
theorem ta_nx1 (c : Int32) (x y x' y' : Nat) : ta_NX 1 c x y x' y' ↔ x' = tq_m (nI x) ∧ y' = tq_m c := by
  simp [ta_NX, ta_TR, ta_AW, ta_gx, ta_gy]
theorem ta_nx2 (c : Int32) (x y x' y' : Nat) : ta_NX 2 c x y x' y' ↔ x' = tq_m (nI x + c) ∧ y' = tq_m (nI y) := by
  simp [ta_NX, ta_TR, ta_AW, ta_gx, ta_gy]
theorem ta_nx3 (c : Int32) (x y x' y' : Nat) : ta_NX 3 c x y x' y' ↔ x' = tq_m (nI x + nI y) ∧ y' = tq_m (nI y) := by
  simp [ta_NX, ta_TR, ta_AW, ta_gx, ta_gy]
theorem ta_nx4 (c : Int32) (x y x' y' : Nat) : ta_NX 4 c x y x' y' ↔ x' = tq_m (nI x - nI y) ∧ y' = tq_m (nI y) := by
  simp [ta_NX, ta_TR, ta_AW, ta_gx, ta_gy]
theorem ta_nx5 (c : Int32) (x y x' y' : Nat) : ta_NX 5 c x y x' y' ↔ x' = tq_m (nI x * nI y) ∧ y' = tq_m (nI y) := by
  simp [ta_NX, ta_TR, ta_AW, ta_gx, ta_gy]
theorem ta_nx6 (c : Int32) (x y x' y' : Nat) : ta_NX 6 c x y x' y' ↔ ¬ y = 0 ∧ x' = tq_m (nI x / nI y) ∧ y' = tq_m (nI y) := by
  simp [ta_NX, ta_TR, ta_AW, ta_gx, ta_gy]
theorem ta_nx7 (c : Int32) (x y x' y' : Nat) : ta_NX 7 c x y x' y' ↔ x' = tq_m (nI y) ∧ y' = tq_m (nI x) := by
  simp [ta_NX, ta_TR, ta_AW, ta_gx, ta_gy]
theorem ta_nx8 (c : Int32) (x y x' y' : Nat) : ta_NX 8 c x y x' y' ↔ nI x < (c &&& 31) ∧ x' = tq_m (nI x) ∧ y' = tq_m (nI y) := by
  simp [ta_NX, ta_TR, ta_AW, ta_gx, ta_gy]
theorem ta_nx9 (c : Int32) (x y x' y' : Nat) : ta_NX 9 c x y x' y' ↔ x' = tq_m (nI x) ∧ y' < 16 := by
  simp [ta_NX, ta_TR, ta_AW, ta_gx, ta_gy]
theorem ta_nxb {o : Nat} (h : 10 ≤ o) (h' : o ≤ 13) (c : Int32) (x y x' y' : Nat) : ta_NX o c x y x' y' ↔ ¬ ta_AW o x y ∧ x' = tq_m (nI x) ∧ y' = tq_m (nI y) := by
  have ht : ¬ ta_TR o c x y := by unfold ta_TR; omega
  unfold ta_NX ta_gx ta_gy
  rw [if_neg (by omega), if_neg (by omega), if_neg (by omega), if_neg (by omega), if_neg (by omega), if_neg (by omega), if_neg (by omega), if_neg (by omega), if_neg (by omega)]
  constructor
  · rintro ⟨_, _, h1, h2, h3⟩
    rcases h3 with ⟨z, _⟩ | ⟨_, z⟩
    · omega
    · exact ⟨h1, h2, z⟩
  · rintro ⟨h1, h2, h3⟩
    exact ⟨by omega, ht, h1, h2, Or.inr ⟨by omega, h3⟩⟩
theorem ta_nx14 (c : Int32) (x y x' y' : Nat) : ¬ ta_NX 14 c x y x' y' := fun h => h.1 rfl
theorem ta_aw_n {o : Nat} (h : o < 10 ∨ 13 < o) (x y : Nat) : ¬ ta_AW o x y := by unfold ta_AW; omega
theorem ta_tr_n {o : Nat} (h : o ≠ 6) (h' : o ≠ 8) (c : Int32) (x y : Nat) : ¬ ta_TR o c x y := by unfold ta_TR; omega
/-! the three row sets of a transfer, from the pairs Q -/
def ta_TI (o : Nat) (c : Int32) (Q : Nat → Nat → Prop) (nx aw tp : Nat → Int32) : Prop :=
  ∀ x', x' < 16 → ∀ y', (tq_B (nx x') y' ↔ ∃ x y, Q x y ∧ ta_NX o c x y x' y') ∧ (tq_B (aw x') y' ↔ Q x' y' ∧ ta_AW o x' y') ∧ (tq_B (tp x') y' ↔ Q x' y' ∧ ta_TR o c x' y')
theorem ta_TI_c {o : Nat} {c : Int32} {Q Q' : Nat → Nat → Prop} {nx aw tp : Nat → Int32} (h : ta_TI o c Q nx aw tp) (e : ∀ x y, Q x y ↔ Q' x y) : ta_TI o c Q' nx aw tp := by
  have : Q = Q' := funext fun x => funext fun y => propext (e x y)
  rw [← this]; exact h
theorem ta_TI_0 {o : Nat} {c : Int32} {Q : Nat → Nat → Prop} {nx aw tp : Nat → Int32} (hQ : ∀ x y, ¬ Q x y) (h : ∀ x, x < 16 → nx x = 0 ∧ aw x = 0 ∧ tp x = 0) : ta_TI o c Q nx aw tp := by
  intro x hx y
  obtain ⟨h1, h2, h3⟩ := h x hx
  rw [h1, h2, h3]
  exact ⟨⟨fun z => absurd z (tq_0 y), fun ⟨a, b, z, _⟩ => absurd z (hQ a b)⟩, ⟨fun z => absurd z (tq_0 y), fun ⟨z, _⟩ => absurd z (hQ x y)⟩, ⟨fun z => absurd z (tq_0 y), fun ⟨z, _⟩ => absurd z (hQ x y)⟩⟩
/-- more pairs that only go on, to one row -/
theorem ta_TI_or {o : Nat} {c : Int32} {Q P : Nat → Nat → Prop} {nx aw tp : Nat → Int32} (h : ta_TI o c Q nx aw tp) (a : Nat) (r : Int32)
    (h1 : ∀ x' y', (∃ x y, P x y ∧ ta_NX o c x y x' y') ↔ x' = a ∧ tq_B r y') (h2 : ∀ x y, P x y → ¬ ta_AW o x y ∧ ¬ ta_TR o c x y) :
    ta_TI o c (fun x y => Q x y ∨ P x y) (upd nx a (nx a ||| r)) aw tp := by
  intro x' hx' y'
  obtain ⟨g1, g2, g3⟩ := h x' hx' y'
  refine ⟨?_, ?_, ?_⟩
  · have e : tq_B (upd nx a (nx a ||| r) x') y' ↔ tq_B (nx x') y' ∨ (x' = a ∧ tq_B r y') := by
      by_cases q : x' = a
      · subst q
        rw [pk_us, tq_or]
        exact ⟨fun z => z.elim Or.inl (fun w => Or.inr ⟨rfl, w⟩), fun z => z.elim Or.inl (fun w => Or.inr w.2)⟩
      · rw [pk_un q]
        exact ⟨Or.inl, fun z => z.elim id (fun w => absurd w.1 q)⟩
    rw [e, g1, ← h1]
    constructor
    · rintro (⟨x, y, z, w⟩ | ⟨x, y, z, w⟩)
      · exact ⟨x, y, Or.inl z, w⟩
      · exact ⟨x, y, Or.inr z, w⟩
    · rintro ⟨x, y, z | z, w⟩
      · exact Or.inl ⟨x, y, z, w⟩
      · exact Or.inr ⟨x, y, z, w⟩
  · rw [g2]
    exact ⟨fun ⟨z, w⟩ => ⟨Or.inl z, w⟩, fun ⟨z, w⟩ => z.elim (fun q => ⟨q, w⟩) (fun q => absurd w (h2 _ _ q).1)⟩
  · rw [g3]
    exact ⟨fun ⟨z, w⟩ => ⟨Or.inl z, w⟩, fun ⟨z, w⟩ => z.elim (fun q => ⟨q, w⟩) (fun q => absurd w (h2 _ _ q).2)⟩
/-- one pair that traps -/
theorem ta_TI_tr {o : Nat} {c : Int32} {Q : Nat → Nat → Prop} {nx aw tp : Nat → Int32} (h : ta_TI o c Q nx aw tp) (x y : Nat) (r : Int32) (hr : ∀ z, tq_B r z ↔ z = y)
    (h2 : ta_TR o c x y) (h3 : ¬ ta_AW o x y) : ta_TI o c (fun a b => Q a b ∨ (a = x ∧ b = y)) nx aw (upd tp x (tp x ||| r)) := by
  intro x' hx' y'
  obtain ⟨g1, g2, g3⟩ := h x' hx' y'
  refine ⟨?_, ?_, ?_⟩
  · rw [g1]
    constructor
    · rintro ⟨a, b, z, w⟩; exact ⟨a, b, Or.inl z, w⟩
    · rintro ⟨a, b, z | z, w⟩
      · exact ⟨a, b, z, w⟩
      · exact absurd (by rw [z.1, z.2]; exact h2) w.2.1
  · rw [g2]
    exact ⟨fun ⟨z, w⟩ => ⟨Or.inl z, w⟩, fun ⟨z, w⟩ => z.elim (fun q => ⟨q, w⟩) (fun q => absurd (by rw [q.1, q.2] at w; exact w) h3)⟩
  · have e : tq_B (upd tp x (tp x ||| r) x') y' ↔ tq_B (tp x') y' ∨ (x' = x ∧ y' = y) := by
      by_cases q : x' = x
      · subst q
        rw [pk_us, tq_or, hr]
        exact ⟨fun z => z.elim Or.inl (fun w => Or.inr ⟨rfl, w⟩), fun z => z.elim Or.inl (fun w => Or.inr w.2)⟩
      · rw [pk_un q]
        exact ⟨Or.inl, fun z => z.elim id (fun w => absurd w.1 q)⟩
    rw [e, g3]
    constructor
    · rintro (⟨z, w⟩ | z)
      · exact ⟨Or.inl z, w⟩
      · exact ⟨Or.inr z, by rw [z.1, z.2]; exact h2⟩
    · rintro ⟨z | z, w⟩
      · exact Or.inl ⟨z, w⟩
      · exact Or.inr z
/-- a row of an instruction that keeps the row: it was empty, now it is what it is -/
theorem ta_TI_z {o : Nat} {c : Int32} {Q : Nat → Nat → Prop} {nx aw tp : Nat → Int32} (h : ta_TI o c Q nx aw tp) {x : Nat} (hx : x < 16) (hQ : ∀ y, ¬ Q x y) (h16 : ∀ a b, Q a b → a < 16)
    (hl : ∀ a y x' y', a < 16 → ta_NX o c a y x' y' → x' = a) (y : Nat) : ¬ tq_B (nx x) y ∧ ¬ tq_B (aw x) y ∧ ¬ tq_B (tp x) y := by
  obtain ⟨g1, g2, g3⟩ := h x hx y
  refine ⟨fun z => ?_, fun z => hQ y (g2.mp z).1, fun z => hQ y (g3.mp z).1⟩
  obtain ⟨a, b, q, w⟩ := g1.mp z
  have := hl a b x y (h16 a b q) w
  subst this
  exact hQ b q
theorem ta_TI_l {o : Nat} {c : Int32} {Q : Nat → Nat → Prop} {nx aw tp nx' aw' tp' : Nat → Int32} {P : Nat → Prop} (h : ta_TI o c Q nx aw tp) {x : Nat} (hx : x < 16) (hQ : ∀ y, ¬ Q x y) (h16 : ∀ a b, Q a b → a < 16)
    (hl : ∀ a y x' y', a < 16 → ta_NX o c a y x' y' → x' = a) (h1 : ∀ x', x' ≠ x → nx' x' = nx x' ∧ aw' x' = aw x' ∧ tp' x' = tp x')
    (h2 : ∀ y', (tq_B (nx' x) y' ↔ ∃ y, P y ∧ ta_NX o c x y x y') ∧ (tq_B (aw' x) y' ↔ P y' ∧ ta_AW o x y') ∧ (tq_B (tp' x) y' ↔ P y' ∧ ta_TR o c x y')) :
    ta_TI o c (fun a b => Q a b ∨ (a = x ∧ P b)) nx' aw' tp' := by
  intro x' hx' y'
  obtain ⟨g1, g2, g3⟩ := h x' hx' y'
  by_cases q : x' = x
  · subst q
    obtain ⟨k1, k2, k3⟩ := h2 y'
    refine ⟨?_, ?_, ?_⟩
    · rw [k1]
      constructor
      · rintro ⟨y, z, w⟩; exact ⟨x', y, Or.inr ⟨rfl, z⟩, w⟩
      · rintro ⟨a, b, z, w⟩
        rcases z with z | z
        · have := hl a b x' y' (h16 a b z) w
          subst this
          exact absurd z (hQ b)
        · obtain ⟨e, z⟩ := z
          subst e
          exact ⟨b, z, w⟩
    · rw [k2]
      exact ⟨fun ⟨z, w⟩ => ⟨Or.inr ⟨rfl, z⟩, w⟩, fun ⟨z, w⟩ => z.elim (fun q => absurd q (hQ y')) (fun q => ⟨q.2, w⟩)⟩
    · rw [k3]
      exact ⟨fun ⟨z, w⟩ => ⟨Or.inr ⟨rfl, z⟩, w⟩, fun ⟨z, w⟩ => z.elim (fun q => absurd q (hQ y')) (fun q => ⟨q.2, w⟩)⟩
  · obtain ⟨k1, k2, k3⟩ := h1 x' q
    rw [k1, k2, k3, g1, g2, g3]
    refine ⟨⟨?_, ?_⟩, ⟨fun ⟨z, w⟩ => ⟨Or.inl z, w⟩, fun ⟨z, w⟩ => ⟨z.elim id (fun e => absurd e.1 q), w⟩⟩, ⟨fun ⟨z, w⟩ => ⟨Or.inl z, w⟩, fun ⟨z, w⟩ => ⟨z.elim id (fun e => absurd e.1 q), w⟩⟩⟩
    · rintro ⟨a, b, z, w⟩; exact ⟨a, b, Or.inl z, w⟩
    · rintro ⟨a, b, z | z, w⟩
      · exact ⟨a, b, z, w⟩
      · obtain ⟨e, z⟩ := z
        subst e
        exact absurd (hl a b x' y' hx w) q
/-- the pairs of the rows below n -/
def ta_Q (ii : Nat → Int32) (n a b : Nat) : Prop := a < n ∧ tq_B (ii a) b
theorem ta_Q_s (ii : Nat → Int32) (n a b : Nat) : (ta_Q ii n a b ∨ (a = n ∧ tq_B (ii n) b)) ↔ ta_Q ii (n + 1) a b := by
  unfold ta_Q
  constructor
  · rintro (⟨h, z⟩ | ⟨h, z⟩)
    · exact ⟨by omega, z⟩
    · subst h; exact ⟨by omega, z⟩
  · rintro ⟨h, z⟩
    by_cases e : a = n
    · subst e; exact Or.inr ⟨rfl, z⟩
    · exact Or.inl ⟨by omega, z⟩
/-! steps between states: i is p * 16 + x -/
def ta_SR (L : Nat) (o : Nat → Nat) (c : Nat → Int32) (i y j z : Nat) : Prop :=
  (i / 16 + 1 < L ∧ ∃ x', j = (i / 16 + 1) * 16 + x' ∧ ta_NX (o (i / 16)) (c (i / 16)) (i % 16) y x' z) ∨
  (ta_AW (o (i / 16)) (i % 16) y ∧ z = y ∧ ∃ t, t < L ∧ c (i / 16) = nI t ∧ j = t * 16 + i % 16)
def ta_EN (L : Nat) (o : Nat → Nat) (c : Nat → Int32) (i y : Nat) : Prop :=
  o (i / 16) = 14 ∨ (¬ i / 16 + 1 < L ∧ ∃ x' z, ta_NX (o (i / 16)) (c (i / 16)) (i % 16) y x' z) ∨ (ta_AW (o (i / 16)) (i % 16) y ∧ ¬ ∃ t, t < L ∧ c (i / 16) = nI t)
theorem ta_SR_lt {L : Nat} {o : Nat → Nat} {c : Nat → Int32} {i y j z : Nat} (h : ta_SR L o c i y j z) (hy : y < 16) : j < L * 16 ∧ z < 16 := by
  rcases h with ⟨h1, x', e, h2⟩ | ⟨_, e, t, ht, _, e2⟩
  · have := ta_NX_lt h2
    exact ⟨by omega, this.2⟩
  · exact ⟨by omega, by omega⟩
end
section
/-! the component's transfer -/
section
variable {xl xr xe : Int32} {xop xar xlo xhi xhv xfr xcm xal xfi xin xnx xaw xtp : Nat → Int32}
theorem xa_add (post : SX → Prop) (p q : Int32) (H : post (xl, xr, xe, xop, xar, xlo, xhi, xhv, xfr, xcm, xal, xfi, xin, upd xnx (tq_m p) (xnx (tq_m p) ||| ((1 : Int32) <<< (nI (tq_m q) &&& 31))), xaw, xtp)) : wpX_addPair post (xl, xr, xe, xop, xar, xlo, xhi, xhv, xfr, xcm, xal, xfi, xin, xnx, xaw, xtp) p q := by
  unfold wpX_addPair
  dsimp only
  have h := tq_m_lt p
  rw [tq_m_and p, tq_m_and q, nI_clamp (n := tq_m p) (by omega)]
  exact ⟨vp_in_nI h (by decide), vp_in_nI h (by decide), nm_e H⟩
theorem xa_pair (post : SX → Prop) {o x y : Nat} {c : Int32} {Q : Nat → Nat → Prop} (h3 : 3 ≤ o) (h7 : o ≤ 7) (hx : x < 16) (hy : y < 16) (hT : ta_TI o c Q xnx xaw xtp)
    (H : ∀ nx tp, ta_TI o c (fun a b => Q a b ∨ (a = x ∧ b = y)) nx xaw tp → post (xl, xr, xe, xop, xar, xlo, xhi, xhv, xfr, xcm, xal, xfi, xin, nx, xaw, tp)) : wpX_pair post (xl, xr, xe, xop, xar, xlo, xhi, xhv, xfr, xcm, xal, xfi, xin, xnx, xaw, xtp) (nI o) (nI x) (nI y) := by
  have mx := tq_m_nI hx
  have my := tq_m_nI hy
  have key : ∀ (p q : Int32), (∀ x' y', ta_NX o c x y x' y' ↔ x' = tq_m p ∧ y' = tq_m q) → ¬ ta_TR o c x y → post (xl, xr, xe, xop, xar, xlo, xhi, xhv, xfr, xcm, xal, xfi, xin, upd xnx (tq_m p) (xnx (tq_m p) ||| ((1 : Int32) <<< (nI (tq_m q) &&& 31))), xaw, xtp) := by
    intro p q hn ht
    refine H _ _ (ta_TI_or hT (tq_m p) _ (fun x' y' => ?_) (fun a b z => ?_))
    · have hq := tq_m_lt q
      rw [tq_one (by omega)]
      constructor
      · rintro ⟨a, b, ⟨rfl, rfl⟩, w⟩; exact (hn x' y').mp w
      · intro w; exact ⟨x, y, ⟨rfl, rfl⟩, (hn x' y').mpr w⟩
    · rw [z.1, z.2]; exact ⟨ta_aw_n (by omega) _ _, ht⟩
  obtain rfl | rfl | rfl | rfl | rfl : o = 3 ∨ o = 4 ∨ o = 5 ∨ o = 6 ∨ o = 7 := by omega
  · exact br_f (by decide +kernel) (br_f (by decide +kernel) (br_t rfl (xa_add _ _ _ (key _ _ (ta_nx3 c x y) (ta_tr_n (by decide) (by decide) _ _ _)))))
  · exact br_f (by decide +kernel) (br_f (by decide +kernel) (br_f (by decide +kernel) (br_t rfl (xa_add _ _ _ (key _ _ (ta_nx4 c x y) (ta_tr_n (by decide) (by decide) _ _ _))))))
  · exact br_f (by decide +kernel) (br_f (by decide +kernel) (br_f (by decide +kernel) (br_f (by decide +kernel) (br_t rfl (xa_add _ _ _ (key _ _ (ta_nx5 c x y) (ta_tr_n (by decide) (by decide) _ _ _)))))))
  · refine br_f (by decide +kernel) (br_f (by decide +kernel) (br_f (by decide +kernel) (br_f (by decide +kernel) (br_f (by decide +kernel) (br_t rfl ?_)))))
    by_cases e : y = 0
    · subst e
      refine br_t rfl ?_
      rw [nI_clamp (n := x) (by omega)]
      refine ⟨vp_in_nI hx (by decide), vp_in_nI hx (by decide), nm_e ?_⟩
      exact H _ _ (ta_TI_tr hT x 0 1 tq_one1 (Or.inl ⟨rfl, rfl⟩) (ta_aw_n (by omega) _ _))
    · have hy0 : ¬ nI y = 0 := nI_ne0 (by omega) (by omega)
      refine br_f hy0 ⟨hy0, xa_add _ _ _ (key _ _ (fun x' y' => ?_) ?_)⟩
      · rw [ta_nx6]; exact ⟨fun z => z.2, fun z => ⟨e, z⟩⟩
      · unfold ta_TR; omega
  · exact br_f (by decide +kernel) (br_t (by decide +kernel) (xa_add _ _ _ (key _ _ (ta_nx7 c x y) (ta_tr_n (by decide) (by decide) _ _ _))))
theorem xa_pairs2 (post : SX → Prop) {o x : Nat} {c : Int32} {Q : Nat → Nat → Prop} (h3 : 3 ≤ o) (h7 : o ≤ 7) (hx : x < 16)
    (H : ∀ nx tp, ta_TI o c (fun a b => Q a b ∨ (a = x ∧ b < 16 ∧ tq_B (xin x) b)) nx xaw tp → post (xl, xr, xe, xop, xar, xlo, xhi, xhv, xfr, xcm, xal, xfi, xin, nx, xaw, tp)) :
    ∀ d y nx tp, y + d = 16 → ta_TI o c (fun a b => Q a b ∨ (a = x ∧ b < y ∧ tq_B (xin x) b)) nx xaw tp → wX_pairs_2 post (nI o) (nI x) (d + 1) (nI y) xl xr xe xop xar xlo xhi xhv xfr xcm xal xfi xin nx xaw tp := by
  intro d
  induction d with
  | zero =>
    intro y nx tp hy hT
    obtain rfl : y = 16 := by omega
    exact br_t (nI_le (a := 16) (b := 16) (Nat.le_refl _) (by decide)) (H _ _ hT)
  | succ d ih =>
    intro y nx tp hy hT
    rw [wX_pairs_2]
    refine br_f (nI_ge (b := 16) (by omega) (by decide)) ⟨vp_in_nI hx (by decide), ?_⟩
    rw [nI_clamp (n := x) (by omega)]
    by_cases hb : tq_B (xin x) y
    · refine br_t ((tq_bit _ (by omega)).mpr hb) (xa_pair _ h3 h7 hx (by omega) hT fun nx' tp' hT' => ?_)
      refine nm_r (nI_1 y) (ih (y + 1) nx' tp' (by omega) (ta_TI_c hT' fun a b => ?_))
      constructor
      · rintro ((z | ⟨z, w, q⟩) | ⟨z, w⟩)
        · exact Or.inl z
        · exact Or.inr ⟨z, by omega, q⟩
        · exact Or.inr ⟨z, by omega, by rw [w]; exact hb⟩
      · rintro (z | ⟨z, w, q⟩)
        · exact Or.inl (Or.inl z)
        · by_cases e : b = y
          · exact Or.inr ⟨z, e⟩
          · exact Or.inl (Or.inr ⟨z, by omega, q⟩)
    · refine br_f (fun z => hb ((tq_bit _ (by omega)).mp z)) (nm_r (nI_1 y) (ih (y + 1) nx tp (by omega) (ta_TI_c hT fun a b => ?_)))
      constructor
      · rintro (z | ⟨z, w, q⟩)
        · exact Or.inl z
        · exact Or.inr ⟨z, by omega, q⟩
      · rintro (z | ⟨z, w, q⟩)
        · exact Or.inl z
        · by_cases e : b = y
          · exact absurd (by rw [← e]; exact q) hb
          · exact Or.inr ⟨z, by omega, q⟩
theorem xa_pairs (post : SX → Prop) {o x : Nat} {c : Int32} (h3 : 3 ≤ o) (h7 : o ≤ 7) (hx : x < 16) (hf : ∀ y, tq_B (xin x) y → y < 16) (hT : ta_TI o c (ta_Q xin x) xnx xaw xtp)
    (H : ∀ nx aw tp, ta_TI o c (ta_Q xin (x + 1)) nx aw tp → post (xl, xr, xe, xop, xar, xlo, xhi, xhv, xfr, xcm, xal, xfi, xin, nx, aw, tp)) : wpX_pairs post (xl, xr, xe, xop, xar, xlo, xhi, xhv, xfr, xcm, xal, xfi, xin, xnx, xaw, xtp) (nI o) (nI x) := by
  refine ⟨17, xa_pairs2 post (Q := ta_Q xin x) h3 h7 hx (fun nx tp hT' => H nx xaw tp (ta_TI_c hT' fun a b => ?_)) 16 0 xnx xtp rfl (ta_TI_c hT fun a b => ?_)⟩
  · rw [← ta_Q_s]
    exact ⟨fun z => z.elim Or.inl (fun w => Or.inr ⟨w.1, w.2.2⟩), fun z => z.elim Or.inl (fun w => Or.inr ⟨w.1, hf b w.2, w.2⟩)⟩
  · exact ⟨Or.inl, fun z => z.elim id (fun w => by omega)⟩
theorem xa_set (post : SX → Prop) {o x : Nat} {c : Int32} (h2 : o ≤ 2) (hx : x < 16) (hf : ∀ y, tq_B (xin x) y → y < 16) (hne : ¬ xin x = 0) (hT : ta_TI o c (ta_Q xin x) xnx xaw xtp)
    (H : ∀ nx aw tp, ta_TI o c (ta_Q xin (x + 1)) nx aw tp → post (xl, xr, xe, xop, xar, xlo, xhi, xhv, xfr, xcm, xal, xfi, xin, nx, aw, tp)) : wpX_setRow post (xl, xr, xe, xop, xar, xlo, xhi, xhv, xfr, xcm, xal, xfi, xin, xnx, xaw, xtp) (nI o) c (nI x) := by
  have mx := tq_m_nI hx
  have key : ∀ (a : Nat) (r : Int32), (∀ x' y', (∃ y, tq_B (xin x) y ∧ ta_NX o c x y x' y') ↔ x' = a ∧ tq_B r y') → post (xl, xr, xe, xop, xar, xlo, xhi, xhv, xfr, xcm, xal, xfi, xin, upd xnx a (xnx a ||| r), xaw, xtp) := by
    intro a r h
    refine H _ _ _ (ta_TI_c (ta_TI_or (P := fun p q => p = x ∧ tq_B (xin x) q) hT a r (fun x' y' => ?_) (fun p q z => ⟨ta_aw_n (by omega) _ _, ta_tr_n (by omega) (by omega) _ _ _⟩)) (ta_Q_s xin x))
    rw [← h]
    constructor
    · rintro ⟨p, q, ⟨rfl, z⟩, w⟩; exact ⟨q, z, w⟩
    · rintro ⟨q, z, w⟩; exact ⟨x, q, ⟨rfl, z⟩, w⟩
  have hi : vp_in (nI x) 16 := vp_in_nI hx (by decide)
  have hin : ∀ z : Int32, vp_in (nI (tq_m z)) 16 := fun z => vp_in_nI (tq_m_lt z) (by decide)
  have hcl : ∀ z : Int32, (nI (tq_m z)).toNatClampNeg = tq_m z := fun z => nI_clamp (by have := tq_m_lt z; omega)
  unfold wpX_setRow
  dsimp only
  rw [tq_m_and c, tq_m_and (nI x + c), hcl, hcl, nI_clamp (n := x) (by omega)]
  obtain rfl | rfl | rfl : o = 0 ∨ o = 1 ∨ o = 2 := by omega
  · refine br_t rfl ⟨hin _, hi, hin _, nm_e (key _ _ fun x' y' => ?_)⟩
    constructor
    · rintro ⟨y, z, w⟩
      obtain ⟨e1, e2⟩ := (ta_nx0 _ _ _ _ _).mp w
      rw [tq_m_nI (hf y z)] at e2
      exact ⟨e1, by rw [e2]; exact z⟩
    · rintro ⟨e1, z⟩
      exact ⟨y', z, (ta_nx0 _ _ _ _ _).mpr ⟨e1, (tq_m_nI (hf y' z)).symm⟩⟩
  · refine br_f (by decide +kernel) (br_t rfl ⟨hi, hi, nm_e (key _ _ fun x' y' => ?_)⟩)
    have hm := tq_m_lt c
    rw [tq_one (by omega)]
    constructor
    · rintro ⟨y, z, w⟩
      obtain ⟨e1, e2⟩ := (ta_nx1 _ _ _ _ _).mp w
      rw [mx] at e1
      exact ⟨e1, e2⟩
    · rintro ⟨e1, z⟩
      obtain ⟨y, hy⟩ := tq_nz.mp hne
      exact ⟨y, hy, (ta_nx1 _ _ _ _ _).mpr ⟨by rw [mx]; exact e1, z⟩⟩
  · refine br_f (by decide +kernel) (br_f (by decide +kernel) ⟨hin _, hi, hin _, nm_e (key _ _ fun x' y' => ?_)⟩)
    constructor
    · rintro ⟨y, z, w⟩
      obtain ⟨e1, e2⟩ := (ta_nx2 _ _ _ _ _).mp w
      rw [tq_m_nI (hf y z)] at e2
      exact ⟨e1, by rw [e2]; exact z⟩
    · rintro ⟨e1, z⟩
      exact ⟨y', z, (ta_nx2 _ _ _ _ _).mpr ⟨e1, (tq_m_nI (hf y' z)).symm⟩⟩
theorem xa_loc {o : Nat} (h8 : 8 ≤ o) (c : Int32) (a y x' y' : Nat) (ha : a < 16) (h : ta_NX o c a y x' y') : x' = a := by
  have e := h.2.2.2.1
  unfold ta_gx at e
  rw [if_neg (by omega), if_neg (by omega), if_neg (by omega), if_neg (by omega), if_neg (by omega), if_neg (by omega), if_neg (by omega), tq_m_nI ha] at e
  exact e
theorem xa_check (post : SX → Prop) {o x : Nat} {c : Int32} (h8 : 8 ≤ o) (h9 : o ≤ 9) (hx : x < 16) (hf : ∀ y, tq_B (xin x) y → y < 16) (hne : ¬ xin x = 0) (hT : ta_TI o c (ta_Q xin x) xnx xaw xtp)
    (h16 : x ≤ 16) (H : ∀ nx aw tp, ta_TI o c (ta_Q xin (x + 1)) nx aw tp → post (xl, xr, xe, xop, xar, xlo, xhi, xhv, xfr, xcm, xal, xfi, xin, nx, aw, tp)) : wpX_checkRow post (xl, xr, xe, xop, xar, xlo, xhi, xhv, xfr, xcm, xal, xfi, xin, xnx, xaw, xtp) (nI o) c (nI x) := by
  have mx := tq_m_nI hx
  have hQ : ∀ y, ¬ ta_Q xin x x y := fun y z => Nat.lt_irrefl _ z.1
  have hQ16 : ∀ a b, ta_Q xin x a b → a < 16 := fun a b z => Nat.lt_of_lt_of_le z.1 h16
  have hz := ta_TI_z hT hx hQ hQ16 (xa_loc h8 c)
  have key : ∀ nx' tp', (∀ x', x' ≠ x → nx' x' = xnx x' ∧ xaw x' = xaw x' ∧ tp' x' = xtp x') → (∀ y', (tq_B (nx' x) y' ↔ ∃ y, tq_B (xin x) y ∧ ta_NX o c x y x y') ∧ (tq_B (xaw x) y' ↔ tq_B (xin x) y' ∧ ta_AW o x y') ∧ (tq_B (tp' x) y' ↔ tq_B (xin x) y' ∧ ta_TR o c x y')) → post (xl, xr, xe, xop, xar, xlo, xhi, xhv, xfr, xcm, xal, xfi, xin, nx', xaw, tp') :=
    fun nx' tp' h1 h2 => H nx' xaw tp' (ta_TI_c (ta_TI_l (P := fun b => tq_B (xin x) b) hT hx hQ hQ16 (xa_loc h8 c) h1 h2) (ta_Q_s xin x))
  have hi : vp_in (nI x) 16 := vp_in_nI hx (by decide)
  unfold wpX_checkRow
  dsimp only
  rw [nI_clamp (n := x) (by omega)]
  obtain rfl | rfl : o = 8 ∨ o = 9 := by omega
  · refine br_f (by decide +kernel) (br_c (fun hc => ⟨hi, hi, nm_e (key _ _ (fun x' q => ⟨pk_un q, rfl, rfl⟩) fun y' => ⟨?_, ?_, ?_⟩)⟩) (fun hc => ⟨hi, hi, nm_e (key _ _ (fun x' q => ⟨rfl, rfl, pk_un q⟩) fun y' => ⟨?_, ?_, ?_⟩)⟩))
    · rw [pk_us]
      constructor
      · intro z
        exact ⟨y', z, (ta_nx8 _ _ _ _ _).mpr ⟨hc, mx.symm, (tq_m_nI (hf y' z)).symm⟩⟩
      · rintro ⟨y, z, w⟩
        obtain ⟨_, _, e⟩ := (ta_nx8 _ _ _ _ _).mp w
        rw [tq_m_nI (hf y z)] at e
        rw [e]; exact z
    · exact ⟨fun z => absurd z (hz y').2.1, fun z => absurd z.2 (ta_aw_n (by omega) _ _)⟩
    · refine ⟨fun z => absurd z (hz y').2.2, fun z => ?_⟩
      rcases z.2 with ⟨e, _⟩ | ⟨_, e⟩
      · omega
      · exact absurd hc e
    · refine ⟨fun z => absurd z (hz y').1, fun ⟨y, z, w⟩ => ?_⟩
      exact absurd ((ta_nx8 _ _ _ _ _).mp w).1 hc
    · exact ⟨fun z => absurd z (hz y').2.1, fun z => absurd z.2 (ta_aw_n (by omega) _ _)⟩
    · rw [pk_us]
      exact ⟨fun z => ⟨z, Or.inr ⟨rfl, hc⟩⟩, fun z => z.1⟩
  · refine br_t rfl ⟨hi, nm_e (key _ _ (fun x' q => ⟨pk_un q, rfl, rfl⟩) fun y' => ⟨?_, ?_, ?_⟩)⟩
    · rw [pk_us, tq_w]
      constructor
      · intro z
        obtain ⟨y, hy⟩ := tq_nz.mp hne
        exact ⟨y, hy, (ta_nx9 _ _ _ _ _).mpr ⟨mx.symm, z⟩⟩
      · rintro ⟨y, z, w⟩
        exact ((ta_nx9 _ _ _ _ _).mp w).2
    · exact ⟨fun z => absurd z (hz y').2.1, fun z => absurd z.2 (ta_aw_n (by omega) _ _)⟩
    · exact ⟨fun z => absurd z (hz y').2.2, fun z => absurd z.2 (ta_tr_n (by decide) (by decide) _ _ _)⟩
theorem xa_br45 (post : SX → Prop) {o x : Nat} (t : Int32) (ho : o < 14) (hx : x < 16) (H : post (xl, xr, xe, xop, xar, xlo, xhi, xhv, xfr, xcm, xal, xfi, xin, upd xnx x (xin x &&& (t ^^^ (-1))), upd xaw x (xin x &&& t), xtp)) : wX_branchRow_45 post (nI o) (nI x) t xl xr xe xop xar xlo xhi xhv xfr xcm xal xfi xin xnx xaw xtp := by
  have hi : vp_in (nI x) 16 := vp_in_nI hx (by decide)
  have h14 : ¬ nI o = 14 := fun e => by
    have := (nI_eq (a := o) (b := 14) (by omega) (by omega)).mp e
    omega
  unfold wX_branchRow_45
  rw [nI_clamp (n := x) (by omega)]
  exact br_f h14 ⟨hi, hi, nm_e ⟨hi, hi, nm_e H⟩⟩
theorem xa_branch (post : SX → Prop) {o x : Nat} {c : Int32} (h10 : 10 ≤ o) (h14 : o ≤ 14) (hx : x < 16) (hf : ∀ y, tq_B (xin x) y → y < 16) (hT : ta_TI o c (ta_Q xin x) xnx xaw xtp)
    (H : ∀ nx aw tp, ta_TI o c (ta_Q xin (x + 1)) nx aw tp → post (xl, xr, xe, xop, xar, xlo, xhi, xhv, xfr, xcm, xal, xfi, xin, nx, aw, tp)) : wpX_branchRow post (xl, xr, xe, xop, xar, xlo, xhi, xhv, xfr, xcm, xal, xfi, xin, xnx, xaw, xtp) (nI o) (nI x) := by
  have mx := tq_m_nI hx
  have hQ : ∀ y, ¬ ta_Q xin x x y := fun y z => Nat.lt_irrefl _ z.1
  have hQ16 : ∀ a b, ta_Q xin x a b → a < 16 := fun a b z => Nat.lt_of_lt_of_le z.1 (by omega)
  have hz := ta_TI_z hT hx hQ hQ16 (xa_loc (by omega) c)
  have key : ∀ t : Int32, o < 14 → (∀ y, y < 16 → (tq_B t y ↔ ta_AW o x y)) → post (xl, xr, xe, xop, xar, xlo, xhi, xhv, xfr, xcm, xal, xfi, xin, upd xnx x (xin x &&& (t ^^^ (-1))), upd xaw x (xin x &&& t), xtp) := by
    intro t ho ht
    refine H _ _ xtp (ta_TI_c (ta_TI_l (P := fun b => tq_B (xin x) b) hT hx hQ hQ16 (xa_loc (by omega) c) (fun x' q => ⟨pk_un q, pk_un q, rfl⟩) fun y' => ⟨?_, ?_, ?_⟩) (ta_Q_s xin x))
    · rw [pk_us, tq_andn]
      constructor
      · rintro ⟨z, w⟩
        exact ⟨y', z, (ta_nxb h10 (by omega) _ _ _ _ _).mpr ⟨fun q => w ((ht y' (hf y' z)).mpr q), mx.symm, (tq_m_nI (hf y' z)).symm⟩⟩
      · rintro ⟨y, z, w⟩
        obtain ⟨q, _, e⟩ := (ta_nxb h10 (by omega) _ _ _ _ _).mp w
        rw [tq_m_nI (hf y z)] at e
        rw [e]
        exact ⟨z, fun k => q ((ht y (hf y z)).mp k)⟩
    · rw [pk_us, tq_and]
      exact ⟨fun z => ⟨z.1, (ht y' (hf y' z.1)).mp z.2⟩, fun z => ⟨z.1, (ht y' (hf y' z.1)).mpr z.2⟩⟩
    · exact ⟨fun z => absurd z (hz y').2.2, fun z => absurd z.2 (ta_tr_n (by omega) (by omega) _ _ _)⟩
  obtain rfl | rfl | rfl | rfl | rfl : o = 10 ∨ o = 11 ∨ o = 12 ∨ o = 13 ∨ o = 14 := by omega
  · refine br_t rfl (br_f (by decide +kernel) (br_f (by decide +kernel) (br_f (by decide +kernel) (xa_br45 post 65535 (by decide) hx (key _ (by decide) fun y hy => ?_)))))
    rw [tq_w]; exact ⟨fun _ => Or.inl rfl, fun _ => hy⟩
  · refine br_f (by decide +kernel) (br_t rfl (nm_e (br_f (by decide +kernel) (br_f (by decide +kernel) (xa_br45 post _ (by decide) hx (key _ (by decide) fun y hy => ?_))))))
    rw [tq_one (by omega)]; unfold ta_AW; omega
  · refine br_f (by decide +kernel) (br_f (by decide +kernel) (br_t rfl ?_))
    refine br_f (by decide +kernel) (xa_br45 post _ (by decide) hx (key _ (by decide) fun y hy => ?_))
    rw [tq_above hx]; unfold ta_AW; omega
  · refine br_f (by decide +kernel) (br_f (by decide +kernel) (br_f (by decide +kernel) (br_t rfl ?_)))
    by_cases e : x = 0
    · refine br_t (by rw [e]; rfl) (xa_br45 post _ (by decide) hx (key _ (by decide) fun y hy => ?_))
      rw [tq_w]; unfold ta_AW; omega
    · refine br_f (nI_ne0 (by omega) (by omega)) (xa_br45 post _ (by decide) hx (key _ (by decide) fun y hy => ?_))
      exact ⟨fun z => absurd z (tq_0 y), fun z => by unfold ta_AW at z; omega⟩
  · refine br_f (by decide +kernel) (br_f (by decide +kernel) (br_f (by decide +kernel) (br_f (by decide +kernel) (br_t rfl ?_))))
    refine H _ _ _ (ta_TI_c (ta_TI_l (P := fun b => tq_B (xin x) b) hT hx hQ hQ16 (xa_loc (by omega) c) (fun x' q => ⟨rfl, rfl, rfl⟩) fun y' => ⟨?_, ?_, ?_⟩) (ta_Q_s xin x))
    · exact ⟨fun z => absurd z (hz y').1, fun ⟨y, z, w⟩ => absurd w (ta_nx14 _ _ _ _ _)⟩
    · exact ⟨fun z => absurd z (hz y').2.1, fun z => absurd z.2 (ta_aw_n (by omega) _ _)⟩
    · exact ⟨fun z => absurd z (hz y').2.2, fun z => absurd z.2 (ta_tr_n (by omega) (by omega) _ _ _)⟩
theorem xa_t52 (post : SX → Prop) {o : Nat} {c : Int32} (ho : o ≤ 14) (hf : ∀ x, x < 16 → ∀ y, tq_B (xin x) y → y < 16)
    (H : ∀ nx aw tp, ta_TI o c (ta_Q xin 16) nx aw tp → post (xl, xr, xe, xop, xar, xlo, xhi, xhv, xfr, xcm, xal, xfi, xin, nx, aw, tp)) :
    ∀ d x nx aw tp, x + d = 16 → ta_TI o c (ta_Q xin x) nx aw tp → wX_transfer_52 post (nI o) c (d + 1) (nI x) xl xr xe xop xar xlo xhi xhv xfr xcm xal xfi xin nx aw tp := by
  intro d
  induction d with
  | zero =>
    intro x nx aw tp hx hT
    obtain rfl : x = 16 := by omega
    exact br_t (nI_le (a := 16) (b := 16) (Nat.le_refl _) (by decide)) (H _ _ _ hT)
  | succ d ih =>
    intro x nx aw tp hx hT
    rw [wX_transfer_52]
    refine br_f (nI_ge (b := 16) (by omega) (by decide)) ⟨vp_in_nI (by omega) (by decide), ?_⟩
    rw [nI_clamp (n := x) (by omega)]
    have hfx := hf x (by omega)
    have lt : ∀ k : Nat, k < 20 → (nI k < nI o ↔ k < o) := fun k hk => nI_ltI (by omega) (by omega)
    by_cases hz : xin x = 0
    · refine br_t hz (nm_r (nI_1 x) (ih (x + 1) nx aw tp (by omega) (ta_TI_c hT fun a b => ?_)))
      rw [← ta_Q_s]
      exact ⟨Or.inl, fun z => z.elim id (fun w => absurd (by rw [← hz]; exact w.2) (tq_0 b))⟩
    · refine br_f hz ?_
      have nxt : ∀ nx' aw' tp', ta_TI o c (ta_Q xin (x + 1)) nx' aw' tp' → ∀ k : Int32, k = nI x + 1 → wX_transfer_52 post (nI o) c (d + 1) k xl xr xe xop xar xlo xhi xhv xfr xcm xal xfi xin nx' aw' tp' :=
        fun nx' aw' tp' h => nm_r (nI_1 x) (ih (x + 1) nx' aw' tp' (by omega) h)
      by_cases h2 : 2 < o
      · refine br_t ((lt 2 (by decide)).mpr h2) ?_
        by_cases h7 : 7 < o
        · refine br_t ((lt 7 (by decide)).mpr h7) ?_
          by_cases h9 : 9 < o
          · exact br_t ((lt 9 (by decide)).mpr h9) (xa_branch _ (by omega) ho (by omega) hfx hT nxt)
          · exact br_f (fun z => h9 ((lt 9 (by decide)).mp z)) (xa_check _ (by omega) (by omega) (by omega) hfx hz hT (by omega) nxt)
        · exact br_f (fun z => h7 ((lt 7 (by decide)).mp z)) (xa_pairs _ (by omega) (by omega) (by omega) hfx hT nxt)
      · exact br_f (fun z => h2 ((lt 2 (by decide)).mp z)) (xa_set _ (by omega) (by omega) hfx hz hT nxt)
theorem xa_t2 (post : SX → Prop) {p o : Nat} {c : Int32} (hp : p < 16) (hop : xop p = nI o) (hc : xar p = c) (ho : o ≤ 14) (hf : ∀ x, x < 16 → ∀ y, tq_B (xin x) y → y < 16)
    (H : ∀ nx aw tp, ta_TI o c (ta_Q xin 16) nx aw tp → post (xl, xr, xe, xop, xar, xlo, xhi, xhv, xfr, xcm, xal, xfi, xin, nx, aw, tp)) :
    ∀ d x nx aw tp, x + d = 16 → (∀ a, a < x → nx a = 0 ∧ aw a = 0 ∧ tp a = 0) → wX_transfer_2 post (nI p) xl xr xe (d + 1) (nI x) xop xar xlo xhi xhv xfr xcm xal xfi xin nx aw tp := by
  intro d
  induction d with
  | zero =>
    intro x nx aw tp hx h0
    obtain rfl : x = 16 := by omega
    have hi : vp_in (nI p) 16 := vp_in_nI hp (by decide)
    refine br_t (nI_le (a := 16) (b := 16) (Nat.le_refl _) (by decide)) ⟨hi, nm_r (e' := nI o) ?_ ⟨hi, nm_r (e' := c) ?_ ⟨17, xa_t52 post ho hf H 16 0 nx aw tp rfl ?_⟩⟩⟩
    · rw [nI_clamp (by omega)]; exact hop
    · rw [nI_clamp (by omega)]; exact hc
    · exact ta_TI_0 (fun a b z => Nat.not_lt_zero _ z.1) h0
  | succ d ih =>
    intro x nx aw tp hx h0
    have hi : vp_in (nI x) 16 := vp_in_nI (by omega) (by decide)
    rw [wX_transfer_2]
    dsimp only
    rw [nI_clamp (n := x) (by omega)]
    refine br_f (nI_ge (b := 16) (by omega) (by decide)) ⟨hi, nm_e ⟨hi, nm_e ⟨hi, nm_e (nm_r (nI_1 x) (ih (x + 1) _ _ _ (by omega) (lt_s (fun a ha => ?_) ⟨pk_us, pk_us, pk_us⟩)))⟩⟩⟩
    have ne : a ≠ x := by omega
    obtain ⟨h1, h2, h3⟩ := h0 a ha
    exact ⟨by rw [pk_un ne]; exact h1, by rw [pk_un ne]; exact h2, by rw [pk_un ne]; exact h3⟩
theorem xa_transfer (post : SX → Prop) {p o : Nat} {c : Int32} (hp : p < 16) (hop : xop p = nI o) (hc : xar p = c) (ho : o ≤ 14) (hf : ∀ x, x < 16 → ∀ y, tq_B (xin x) y → y < 16)
    (H : ∀ nx aw tp, ta_TI o c (ta_Q xin 16) nx aw tp → post (xl, xr, xe, xop, xar, xlo, xhi, xhv, xfr, xcm, xal, xfi, xin, nx, aw, tp)) : wpX_transfer post (xl, xr, xe, xop, xar, xlo, xhi, xhv, xfr, xcm, xal, xfi, xin, xnx, xaw, xtp) (nI p) :=
  ⟨17, xa_t2 post hp hop hc ho hf H 16 0 xnx xaw xtp rfl lt_0⟩
end
end
section
/-! the component's levels: takeFresh, send, passOn -/
theorem tn_ix (p x : Nat) : nI p * 16 + nI x = nI (p * 16 + x) := by
  rw [show (16 : Int32) = nI 16 from rfl, pk_mul, nI_add]
theorem tn_split (P : Nat → Nat → Prop) (p : Nat) : (∃ i y, i < (p + 1) * 16 ∧ P i y) ↔ (∃ i y, i < p * 16 ∧ P i y) ∨ ∃ x y, x < 16 ∧ P (p * 16 + x) y := by
  constructor
  · rintro ⟨i, y, h, z⟩
    by_cases e : i < p * 16
    · exact Or.inl ⟨i, y, e, z⟩
    · exact Or.inr ⟨i - p * 16, y, by omega, by rw [show p * 16 + (i - p * 16) = i by omega]; exact z⟩
  · rintro (⟨i, y, h, z⟩ | ⟨x, y, h, z⟩)
    · exact ⟨i, y, by omega, z⟩
    · exact ⟨p * 16 + x, y, by omega, z⟩
theorem tn_SR {L : Nat} {o : Nat → Nat} {c : Nat → Int32} {p x : Nat} (hx : x < 16) (y j z : Nat) : ta_SR L o c (p * 16 + x) y j z ↔
    (p + 1 < L ∧ j / 16 = p + 1 ∧ ta_NX (o p) (c p) x y (j % 16) z) ∨ (ta_AW (o p) x y ∧ z = y ∧ j / 16 < L ∧ c p = nI (j / 16) ∧ j % 16 = x) := by
  unfold ta_SR
  rw [show (p * 16 + x) / 16 = p by omega, show (p * 16 + x) % 16 = x by omega]
  constructor
  · rintro (⟨h1, x', e, h2⟩ | ⟨h1, h2, t, ht, h3, h4⟩)
    · have := (ta_NX_lt h2).1
      refine Or.inl ⟨h1, by omega, ?_⟩
      rw [show j % 16 = x' by omega]; exact h2
    · refine Or.inr ⟨h1, h2, by omega, ?_, by omega⟩
      rw [show j / 16 = t by omega]; exact h3
  · rintro (⟨h1, h2, h3⟩ | ⟨h1, h2, h3, h4, h5⟩)
    · exact Or.inl ⟨h1, j % 16, by omega, h3⟩
    · exact Or.inr ⟨h1, h2, j / 16, h3, h4, by omega⟩
theorem tn_EN {L : Nat} {o : Nat → Nat} {c : Nat → Int32} {p x : Nat} (hx : x < 16) (y : Nat) : ta_EN L o c (p * 16 + x) y ↔
    o p = 14 ∨ (¬ p + 1 < L ∧ ∃ x' z, ta_NX (o p) (c p) x y x' z) ∨ (ta_AW (o p) x y ∧ ¬ ∃ t, t < L ∧ c p = nI t) := by
  unfold ta_EN
  rw [show (p * 16 + x) / 16 = p by omega, show (p * 16 + x) % 16 = x by omega]
theorem tn_or0 {a b : Int32} : a ||| b = 0 ↔ a = 0 ∧ b = 0 := by
  rw [tq_z, tq_z, tq_z]
  constructor
  · intro h; exact ⟨fun y z => h y ((tq_or a b y).mpr (Or.inl z)), fun y z => h y ((tq_or a b y).mpr (Or.inr z))⟩
  · rintro ⟨h1, h2⟩ y z
    rcases (tq_or a b y).mp z with q | q
    · exact h1 y q
    · exact h2 y q
section
variable {xl xr xe : Int32} {xop xar xlo xhi xhv xfr xcm xal xfi xin xnx xaw xtp : Nat → Int32}
theorem xb_tf4 (post : Int32 → SX → Prop) {p : Nat} (hp : p < 16)
    (H : ∀ r ii, (∀ x, x < 16 → ii x = xfr (p * 16 + x)) → ((r = 0 ∧ ∀ x, x < 16 → xfr (p * 16 + x) = 0) ∨ (r = 1 ∧ ∃ x, x < 16 ∧ ¬ xfr (p * 16 + x) = 0)) → post r (xl, xr, xe, xop, xar, xlo, xhi, xhv, xfr, xcm, xal, xfi, ii, xnx, xaw, xtp)) :
    ∀ d x s ii, x + d = 16 → (∀ a, a < x → ii a = xfr (p * 16 + a)) → (s = 0 ↔ ∀ a, a < x → xfr (p * 16 + a) = 0) → wX_takeFresh_4 post (nI p) xl xr xe (d + 1) s (nI x) xop xar xlo xhi xhv xfr xcm xal xfi ii xnx xaw xtp := by
  intro d
  induction d with
  | zero =>
    intro x s ii hx h1 h2
    obtain rfl : x = 16 := by omega
    refine br_t (nI_le (a := 16) (b := 16) (Nat.le_refl _) (by decide)) (br_c (fun z => H 0 ii h1 (Or.inl ⟨rfl, h2.mp z⟩)) (fun z => H 1 ii h1 (Or.inr ⟨rfl, ?_⟩)))
    refine Classical.byContradiction fun q => z (h2.mpr fun a ha => ?_)
    exact Classical.byContradiction fun w => q ⟨a, ha, w⟩
  | succ d ih =>
    intro x s ii hx h1 h2
    have hi : vp_in (nI x) 16 := vp_in_nI (by omega) (by decide)
    rw [wX_takeFresh_4]
    dsimp only
    rw [tn_ix, nI_clamp (n := x) (by omega), nI_clamp (n := p * 16 + x) (by omega)]
    refine br_f (nI_ge (b := 16) (by omega) (by decide)) ⟨vp_in_nI (by omega) (by decide), hi, nm_e ⟨hi, nm_r (e' := s ||| xfr (p * 16 + x)) (by rw [pk_us]) (nm_r (nI_1 x) (ih (x + 1) _ _ (by omega) (lt_s (fun a ha => ?_) pk_us) ?_))⟩⟩
    · rw [pk_un (by omega)]; exact h1 a ha
    · rw [tn_or0, h2]
      exact ⟨fun z => lt_s z.1 z.2, fun z => ⟨fun a ha => z a (by omega), z x (by omega)⟩⟩
theorem xb_tf (post : Int32 → SX → Prop) {p : Nat} (hp : p < 16)
    (H : ∀ r ii, (∀ x, x < 16 → ii x = xfr (p * 16 + x)) → ((r = 0 ∧ ∀ x, x < 16 → xfr (p * 16 + x) = 0) ∨ (r = 1 ∧ ∃ x, x < 16 ∧ ¬ xfr (p * 16 + x) = 0)) → post r (xl, xr, xe, xop, xar, xlo, xhi, xhv, xfr, xcm, xal, xfi, ii, xnx, xaw, xtp)) : wpX_takeFresh post (xl, xr, xe, xop, xar, xlo, xhi, xhv, xfr, xcm, xal, xfi, xin, xnx, xaw, xtp) (nI p) :=
  ⟨17, xb_tf4 post hp H 16 0 0 xin rfl lt_0 ⟨fun _ => lt_0, fun _ => rfl⟩⟩
theorem xb_no (post : Int32 → Prop) {L : Nat} (hl : xl = nI L) (hL : L ≤ 16) (t : Int32) (h0 : ∀ k, k < L → t = nI k → post 0) (h1 : (¬ ∃ k, k < L ∧ t = nI k) → post 1) : wpX_noInstruction post (xl, xr, xe, xop, xar, xlo, xhi, xhv, xfr, xcm, xal, xfi, xin, xnx, xaw, xtp) t := by
  subst hl
  refine br_c (fun h => h1 ?_) (fun h => ?_)
  · rintro ⟨k, hk, e⟩
    rw [e] at h
    exact nI_pos (by omega) h
  · obtain ⟨j, hj, rfl⟩ := nI_of h
    refine pk_lt j L (fun z => h0 j z rfl) (fun z => h1 ?_) rfl rfl hj (by omega)
    rintro ⟨k, hk, e⟩
    have := (nI_eq hj (by omega)).mp e
    omega
theorem xb_s37i (post : SX → Prop) (J : Int32 → Int32 → (Nat → Int32) → (Nat → Int32) → (Nat → Int32) → (Nat → Int32) → (Nat → Int32) → (Nat → Int32) → (Nat → Int32) → (Nat → Int32) → (Nat → Int32) → (Nat → Int32) → (Nat → Int32) → (Nat → Int32) → (Nat → Int32) → Prop) {t x : Nat} (w z : Int32) (ht : t < 16) (hx : x < 16)
    (H : J (nI (x + 1)) xe xop xar xlo xhi xhv xfr (upd xcm (t * 16 + x) (xcm (t * 16 + x) ||| z)) xal xfi xin xnx xaw xtp) : wX_send_37 post J (nI t) w 0 (nI x) z xl xr xe xop xar xlo xhi xhv xfr xcm xal xfi xin xnx xaw xtp := by
  have hi : vp_in (nI (t * 16 + x)) 256 := vp_in_nI (by omega) (by decide)
  have k : wX_send_53 post J (nI t) w 0 (nI x) z xl xr xe xop xar xlo xhi xhv xfr xcm xal xfi xin xnx xaw xtp := by
    unfold wX_send_53
    rw [tn_ix, nI_clamp (n := t * 16 + x) (by omega)]
    exact br_t rfl ⟨hi, hi, nm_e (nm_r (nI_1 x) H)⟩
  exact br_c (fun _ => k) (fun _ => br_t rfl k)
theorem xb_s37n (post : SX → Prop) (J : Int32 → Int32 → (Nat → Int32) → (Nat → Int32) → (Nat → Int32) → (Nat → Int32) → (Nat → Int32) → (Nat → Int32) → (Nat → Int32) → (Nat → Int32) → (Nat → Int32) → (Nat → Int32) → (Nat → Int32) → (Nat → Int32) → (Nat → Int32) → Prop) {x : Nat} (t w z : Int32)
    (H0 : z = 0 → J (nI (x + 1)) xe xop xar xlo xhi xhv xfr xcm xal xfi xin xnx xaw xtp) (H1 : ¬ z = 0 → J (nI (x + 1)) 1 xop xar xlo xhi xhv xfr xcm xal xfi xin xnx xaw xtp) : wX_send_37 post J t w 1 (nI x) z xl xr xe xop xar xlo xhi xhv xfr xcm xal xfi xin xnx xaw xtp := by
  refine br_c (fun h => ?_) (fun h => br_f (by decide) ?_)
  · exact br_f (by decide) (nm_r (nI_1 x) (H0 h))
  · exact br_f (by decide) (nm_r (nI_1 x) (H1 h))
theorem xb_s9i (post : SX → Prop) {t : Nat} {w : Int32} {R : Nat → Int32} (hR : (w = 0 ∧ R = xnx) ∨ (¬ w = 0 ∧ R = xaw)) (ht : t < 16)
    (H : ∀ cm, (∀ j, j < 256 → ∀ z, tq_B (cm j) z ↔ tq_B (xcm j) z ∨ (j / 16 = t ∧ j % 16 < 16 ∧ tq_B (R (j % 16)) z)) → post (xl, xr, xe, xop, xar, xlo, xhi, xhv, xfr, cm, xal, xfi, xin, xnx, xaw, xtp)) :
    ∀ d x cm, x + d = 16 → (∀ j, j < 256 → ∀ z, tq_B (cm j) z ↔ tq_B (xcm j) z ∨ (j / 16 = t ∧ j % 16 < x ∧ tq_B (R (j % 16)) z)) → wX_send_9 post (nI t) w 0 xl xr (d + 1) (nI x) xe xop xar xlo xhi xhv xfr cm xal xfi xin xnx xaw xtp := by
  intro d
  induction d with
  | zero =>
    intro x cm hx h
    obtain rfl : x = 16 := by omega
    exact br_t (nI_le (a := 16) (b := 16) (Nat.le_refl _) (by decide)) (H cm h)
  | succ d ih =>
    intro x cm hx h
    have hi : vp_in (nI x) 16 := vp_in_nI (by omega) (by decide)
    have nxt := ih (x + 1) (upd cm (t * 16 + x) (cm (t * 16 + x) ||| R x)) (by omega) (fun j hj z => by
      by_cases e : j = t * 16 + x
      · subst e
        rw [pk_us, tq_or, h _ hj]
        rw [show (t * 16 + x) / 16 = t by omega, show (t * 16 + x) % 16 = x by omega]
        constructor
        · rintro ((q | ⟨_, q, _⟩) | q)
          · exact Or.inl q
          · omega
          · exact Or.inr ⟨rfl, by omega, q⟩
        · rintro (q | ⟨_, _, q⟩)
          · exact Or.inl (Or.inl q)
          · exact Or.inr q
      · rw [pk_un e, h _ hj]
        have : j / 16 = t → (j % 16 < x ↔ j % 16 < x + 1) := fun q => by omega
        constructor
        · rintro (q | ⟨q1, q2, q3⟩)
          · exact Or.inl q
          · exact Or.inr ⟨q1, (this q1).mp q2, q3⟩
        · rintro (q | ⟨q1, q2, q3⟩)
          · exact Or.inl q
          · exact Or.inr ⟨q1, (this q1).mpr q2, q3⟩)
    rw [wX_send_9]
    dsimp only
    rw [nI_clamp (n := x) (by omega)]
    refine br_f (nI_ge (b := 16) (by omega) (by decide)) ?_
    rcases hR with ⟨hw, hR⟩ | ⟨hw, hR⟩
    · subst hR
      exact br_t hw ⟨hi, xb_s37i post _ w _ ht (by omega) nxt⟩
    · subst hR
      exact br_f hw ⟨hi, xb_s37i post _ w _ ht (by omega) nxt⟩
theorem xb_s9n (post : SX → Prop) {t w : Int32} {R : Nat → Int32} (hR : (w = 0 ∧ R = xnx) ∨ (¬ w = 0 ∧ R = xaw)) {E : Prop}
    (H : ∀ e : Int32, (e = 0 ∨ e = 1) → (e = 1 ↔ E ∨ ∃ a, a < 16 ∧ ¬ R a = 0) → post (xl, xr, e, xop, xar, xlo, xhi, xhv, xfr, xcm, xal, xfi, xin, xnx, xaw, xtp)) :
    ∀ d x (e : Int32), x + d = 16 → (e = 0 ∨ e = 1) → (e = 1 ↔ E ∨ ∃ a, a < x ∧ ¬ R a = 0) → wX_send_9 post t w 1 xl xr (d + 1) (nI x) e xop xar xlo xhi xhv xfr xcm xal xfi xin xnx xaw xtp := by
  intro d
  induction d with
  | zero =>
    intro x e hx h1 h2
    obtain rfl : x = 16 := by omega
    exact br_t (nI_le (a := 16) (b := 16) (Nat.le_refl _) (by decide)) (H e h1 h2)
  | succ d ih =>
    intro x e hx h1 h2
    have hi : vp_in (nI x) 16 := vp_in_nI (by omega) (by decide)
    have n0 : R x = 0 → wX_send_9 post t w 1 xl xr (d + 1) (nI (x + 1)) e xop xar xlo xhi xhv xfr xcm xal xfi xin xnx xaw xtp := fun z => ih (x + 1) e (by omega) h1 (by
      rw [h2]
      constructor
      · rintro (q | ⟨a, ha, q⟩)
        · exact Or.inl q
        · exact Or.inr ⟨a, by omega, q⟩
      · rintro (q | ⟨a, ha, q⟩)
        · exact Or.inl q
        · by_cases e : a = x
          · subst e; exact absurd z q
          · exact Or.inr ⟨a, by omega, q⟩)
    have n1 : ¬ R x = 0 → wX_send_9 post t w 1 xl xr (d + 1) (nI (x + 1)) 1 xop xar xlo xhi xhv xfr xcm xal xfi xin xnx xaw xtp := fun z => ih (x + 1) 1 (by omega) (Or.inr rfl) ⟨fun _ => Or.inr ⟨x, by omega, z⟩, fun _ => rfl⟩
    rw [wX_send_9]
    dsimp only
    rw [nI_clamp (n := x) (by omega)]
    refine br_f (nI_ge (b := 16) (by omega) (by decide)) ?_
    rcases hR with ⟨hw, hR⟩ | ⟨hw, hR⟩
    · subst hR
      exact br_t hw ⟨hi, xb_s37n post _ t w _ n0 n1⟩
    · subst hR
      exact br_f hw ⟨hi, xb_s37n post _ t w _ n0 n1⟩
theorem xb_send (post : SX → Prop) {L : Nat} (hl : xl = nI L) (hL : L ≤ 16) (t w : Int32) {R : Nat → Int32} (hR : (w = 0 ∧ R = xnx) ∨ (¬ w = 0 ∧ R = xaw)) (he : xe = 0 ∨ xe = 1)
    (H : ∀ (e : Int32) cm, (e = 0 ∨ e = 1) → (e = 1 ↔ xe = 1 ∨ ((¬ ∃ k, k < L ∧ t = nI k) ∧ ∃ a, a < 16 ∧ ¬ R a = 0)) →
      (∀ j, j < 256 → ∀ z, tq_B (cm j) z ↔ tq_B (xcm j) z ∨ (j / 16 < L ∧ t = nI (j / 16) ∧ tq_B (R (j % 16)) z)) → post (xl, xr, e, xop, xar, xlo, xhi, xhv, xfr, cm, xal, xfi, xin, xnx, xaw, xtp)) : wpX_send post (xl, xr, xe, xop, xar, xlo, xhi, xhv, xfr, xcm, xal, xfi, xin, xnx, xaw, xtp) t w := by
  unfold wpX_send
  dsimp only
  refine xb_no _ hl hL t (fun k hk e => ⟨17, ?_⟩) (fun h => ⟨17, ?_⟩)
  · subst e
    refine xb_s9i post hR (by omega) (fun cm h => H xe cm he ⟨Or.inl, fun z => z.elim id (fun z => absurd ⟨k, hk, rfl⟩ z.1)⟩ fun j hj z => ?_) 16 0 xcm rfl (fun j hj z => ⟨Or.inl, fun q => q.elim id (fun q => by omega)⟩)
    rw [h j hj]
    constructor
    · rintro (q | ⟨q1, q2, q3⟩)
      · exact Or.inl q
      · exact Or.inr ⟨by omega, by rw [q1], q3⟩
    · rintro (q | ⟨q1, q2, q3⟩)
      · exact Or.inl q
      · exact Or.inr ⟨((nI_eq (by omega) (by omega)).mp q2).symm, by omega, q3⟩
  · refine xb_s9n post hR (E := xe = 1) (fun e h1 h2 => H e xcm h1 ?_ fun j hj z => ⟨Or.inl, fun q => q.elim id (fun q => absurd ⟨j / 16, q.1, q.2.1⟩ h)⟩) 16 0 xe rfl he ⟨Or.inl, fun q => q.elim id (fun ⟨a, ha, _⟩ => by omega)⟩
    rw [h2]
    exact ⟨fun q => q.elim Or.inl (fun q => Or.inr ⟨h, q⟩), fun q => q.elim Or.inl (fun q => Or.inr q.2)⟩
end
end
section
/-! the component's passOn and settle -/
/-- what is sent on from the rows below p * 16 of F -/
def xc_C (L : Nat) (o : Nat → Nat) (c F : Nat → Int32) (p : Nat) (cm : Nat → Int32) : Prop :=
  ∀ j, j < 256 → ∀ z, tq_B (cm j) z ↔ ∃ i y, i < p * 16 ∧ tq_B (F i) y ∧ ta_SR L o c i y j z
def xc_E (L : Nat) (o : Nat → Nat) (c F : Nat → Int32) (E : Prop) (p : Nat) (e : Int32) : Prop :=
  (e = 0 ∨ e = 1) ∧ (e = 1 ↔ E ∨ ∃ i y, i < p * 16 ∧ tq_B (F i) y ∧ ta_EN L o c i y)
theorem xc_C_z {L : Nat} {o : Nat → Nat} {c F : Nat → Int32} {p : Nat} {cm : Nat → Int32} (h : xc_C L o c F p cm) (hz : ∀ x, x < 16 → F (p * 16 + x) = 0) : xc_C L o c F (p + 1) cm := by
  intro j hj z
  rw [h j hj z, tn_split (fun i y => tq_B (F i) y ∧ ta_SR L o c i y j z)]
  refine ⟨Or.inl, fun q => q.elim id ?_⟩
  rintro ⟨x, y, hx, q, _⟩
  exact absurd (by rw [← hz x hx]; exact q) (tq_0 y)
theorem xc_E_z {L : Nat} {o : Nat → Nat} {c F : Nat → Int32} {E : Prop} {p : Nat} {e : Int32} (h : xc_E L o c F E p e) (hz : ∀ x, x < 16 → F (p * 16 + x) = 0) : xc_E L o c F E (p + 1) e := by
  refine ⟨h.1, ?_⟩
  rw [h.2, tn_split (fun i y => tq_B (F i) y ∧ ta_EN L o c i y)]
  refine ⟨fun q => q.elim Or.inl (fun q => Or.inr (Or.inl q)), fun q => q.elim Or.inl (fun q => q.elim Or.inr ?_)⟩
  rintro ⟨x, y, hx, q, _⟩
  exact absurd (by rw [← hz x hx]; exact q) (tq_0 y)
theorem xc_C_s {L : Nat} {o : Nat → Nat} {c F : Nat → Int32} {p : Nat} {cm cm1 cm2 ii nx aw tp : Nat → Int32} (h : xc_C L o c F p cm) (hp : p < L) (hL : L ≤ 16) (hii : ∀ x, x < 16 → ii x = F (p * 16 + x)) (hT : ta_TI (o p) (c p) (ta_Q ii 16) nx aw tp)
    (h1 : ∀ j, j < 256 → ∀ z, tq_B (cm1 j) z ↔ tq_B (cm j) z ∨ (j / 16 < L ∧ nI (p + 1) = nI (j / 16) ∧ tq_B (nx (j % 16)) z))
    (h2 : ∀ j, j < 256 → ∀ z, tq_B (cm2 j) z ↔ tq_B (cm1 j) z ∨ (j / 16 < L ∧ c p = nI (j / 16) ∧ tq_B (aw (j % 16)) z)) : xc_C L o c F (p + 1) cm2 := by
  intro j hj z
  rw [h2 j hj z, h1 j hj z, h j hj z, tn_split (fun i y => tq_B (F i) y ∧ ta_SR L o c i y j z), or_assoc]
  have hm : j % 16 < 16 := Nat.mod_lt _ (by decide)
  obtain ⟨g1, g2, _⟩ := hT (j % 16) hm z
  rw [g1, g2]
  refine or_congr Iff.rfl ?_
  constructor
  · rintro (⟨q1, q2, x, y, ⟨hx, q3⟩, q4⟩ | ⟨q1, q2, ⟨hx, q3⟩, q4⟩)
    · have e := (nI_eq (by omega) (by omega)).mp q2
      exact ⟨x, y, hx, by rw [← hii x hx]; exact q3, (tn_SR hx y j z).mpr (Or.inl ⟨by omega, e.symm, q4⟩)⟩
    · exact ⟨j % 16, z, hm, by rw [← hii _ hm]; exact q3, (tn_SR hm z j z).mpr (Or.inr ⟨q4, rfl, q1, q2, rfl⟩)⟩
  · rintro ⟨x, y, hx, q1, q2⟩
    rw [← hii x hx] at q1
    rcases (tn_SR hx y j z).mp q2 with ⟨q3, q4, q5⟩ | ⟨q3, q4, q5, q6, q7⟩
    · exact Or.inl ⟨by omega, by rw [q4], x, y, ⟨hx, q1⟩, q5⟩
    · subst q4 q7
      exact Or.inr ⟨q5, q6, ⟨hx, q1⟩, q3⟩
theorem xc_E_s {L : Nat} {o : Nat → Nat} {c F : Nat → Int32} {E : Prop} {p : Nat} {e e1 e2 e3 : Int32} {ii nx aw tp : Nat → Int32} (h : xc_E L o c F E p e) (hp : p < L) (hL : L ≤ 16) (hii : ∀ x, x < 16 → ii x = F (p * 16 + x)) (hT : ta_TI (o p) (c p) (ta_Q ii 16) nx aw tp)
    (hne : ∃ x, x < 16 ∧ ¬ F (p * 16 + x) = 0)
    (h1 : e1 = 1 ↔ e = 1 ∨ ((¬ ∃ k, k < L ∧ nI (p + 1) = nI k) ∧ ∃ a, a < 16 ∧ ¬ nx a = 0))
    (h2 : e2 = 1 ↔ e1 = 1 ∨ ((¬ ∃ k, k < L ∧ c p = nI k) ∧ ∃ a, a < 16 ∧ ¬ aw a = 0))
    (h3 : e3 = 0 ∨ e3 = 1) (h4 : e3 = 1 ↔ e2 = 1 ∨ o p = 14) : xc_E L o c F E (p + 1) e3 := by
  refine ⟨h3, ?_⟩
  rw [h4, h2, h1, h.2, tn_split (fun i y => tq_B (F i) y ∧ ta_EN L o c i y)]
  have a1 : (∃ a, a < 16 ∧ ¬ nx a = 0) ↔ ∃ x y, x < 16 ∧ tq_B (F (p * 16 + x)) y ∧ ∃ x' z, ta_NX (o p) (c p) x y x' z := by
    constructor
    · rintro ⟨a, ha, q⟩
      obtain ⟨z, q⟩ := tq_nz.mp q
      obtain ⟨x, y, ⟨hx, q2⟩, q3⟩ := (hT a ha z).1.mp q
      exact ⟨x, y, hx, by rw [← hii x hx]; exact q2, a, z, q3⟩
    · rintro ⟨x, y, hx, q, x', z, q2⟩
      have hx' := (ta_NX_lt q2).1
      refine ⟨x', hx', tq_nz.mpr ⟨z, (hT x' hx' z).1.mpr ⟨x, y, ⟨hx, by rw [hii x hx]; exact q⟩, q2⟩⟩⟩
  have a2 : (∃ a, a < 16 ∧ ¬ aw a = 0) ↔ ∃ x y, x < 16 ∧ tq_B (F (p * 16 + x)) y ∧ ta_AW (o p) x y := by
    constructor
    · rintro ⟨a, ha, q⟩
      obtain ⟨z, q⟩ := tq_nz.mp q
      obtain ⟨⟨hx, q2⟩, q3⟩ := (hT a ha z).2.1.mp q
      exact ⟨a, z, hx, by rw [← hii a hx]; exact q2, q3⟩
    · rintro ⟨x, y, hx, q, q2⟩
      exact ⟨x, hx, tq_nz.mpr ⟨y, (hT x hx y).2.1.mpr ⟨⟨hx, by rw [hii x hx]; exact q⟩, q2⟩⟩⟩
  have a3 : (¬ ∃ k, k < L ∧ nI (p + 1) = nI k) ↔ ¬ p + 1 < L := by
    refine not_congr ⟨?_, fun z => ⟨p + 1, z, rfl⟩⟩
    rintro ⟨k, hk, q⟩
    have := (nI_eq (by omega) (by omega)).mp q
    omega
  rw [a1, a2, a3]
  obtain ⟨x0, hx0, hn0⟩ := hne
  obtain ⟨y0, hn0⟩ := tq_nz.mp hn0
  constructor
  · rintro (((( q | q) | ⟨q1, x, y, hx, q2, q3⟩) | ⟨q1, x, y, hx, q2, q3⟩) | q)
    · exact Or.inl q
    · exact Or.inr (Or.inl q)
    · exact Or.inr (Or.inr ⟨x, y, hx, q2, (tn_EN hx y).mpr (Or.inr (Or.inl ⟨q1, q3⟩))⟩)
    · exact Or.inr (Or.inr ⟨x, y, hx, q2, (tn_EN hx y).mpr (Or.inr (Or.inr ⟨q3, q1⟩))⟩)
    · exact Or.inr (Or.inr ⟨x0, y0, hx0, hn0, (tn_EN hx0 y0).mpr (Or.inl q)⟩)
  · rintro (q | q | ⟨x, y, hx, q1, q2⟩)
    · exact Or.inl (Or.inl (Or.inl (Or.inl q)))
    · exact Or.inl (Or.inl (Or.inl (Or.inr q)))
    · rcases (tn_EN hx y).mp q2 with q | ⟨q3, q4⟩ | ⟨q3, q4⟩
      · exact Or.inr q
      · exact Or.inl (Or.inl (Or.inr ⟨q3, x, y, hx, q1, q4⟩))
      · exact Or.inl (Or.inr ⟨q4, x, y, hx, q1, q3⟩)
section
variable {xl xr xe : Int32} {xop xar xlo xhi xhv xfr xcm xal xfi xin xnx xaw xtp : Nat → Int32}
theorem xc_p24 (post : SX → Prop) {L : Nat} {o : Nat → Nat} {E : Prop} (hl : xl = nI L) (hL : L ≤ 16) (hop : ∀ p, p < 16 → xop p = nI (o p) ∧ o p ≤ 14) (hf : ∀ i, i < 256 → ∀ y, tq_B (xfr i) y → y < 16)
    (H : ∀ e cm ii nx aw tp, xc_E L o xar xfr E L e → xc_C L o xar xfr L cm → post (xl, xr, e, xop, xar, xlo, xhi, xhv, xfr, cm, xal, xfi, ii, nx, aw, tp)) :
    ∀ d p e cm ii nx aw tp, p + d = L → xc_E L o xar xfr E p e → xc_C L o xar xfr p cm → wX_passOn_24 post (d + 1) (nI p) xl xr e xop xar xlo xhi xhv xfr cm xal xfi ii nx aw tp := by
  subst hl
  intro d
  induction d with
  | zero =>
    intro p e cm ii nx aw tp hp hE hC
    obtain rfl : p = L := by omega
    exact br_t (nI_le (by omega) (by omega)) (H _ _ _ _ _ _ hE hC)
  | succ d ih =>
    intro p e cm ii nx aw tp hp hE hC
    rw [wX_passOn_24]
    have hi : vp_in (nI p) 16 := vp_in_nI (by omega) (by decide)
    refine br_f (nI_ge (by omega) (by omega)) (xb_tf _ (by omega) fun r ii' hii hr => ?_)
    rcases hr with ⟨rfl, hz⟩ | ⟨rfl, hne⟩
    · exact br_t rfl (nm_r (nI_1 p) (ih (p + 1) _ _ _ _ _ _ (by omega) (xc_E_z hE hz) (xc_C_z hC hz)))
    · have hfi : ∀ x, x < 16 → ∀ y, tq_B (ii' x) y → y < 16 := fun x hx y z => hf (p * 16 + x) (by omega) y (by rw [← hii x hx]; exact z)
      refine br_f (by decide) (xa_transfer _ (by omega) (hop p (by omega)).1 rfl (hop p (by omega)).2 hfi fun nx' aw' tp' hT => ?_)
      refine xb_send _ rfl hL (nI p + 1) 0 (R := nx') (Or.inl ⟨rfl, rfl⟩) hE.1 fun e1 cm1 he1 h1 hc1 => ?_
      rw [nI_1] at h1 hc1
      refine ⟨hi, ?_⟩
      rw [nI_clamp (n := p) (by omega)]
      refine xb_send _ rfl hL (xar p) 1 (R := aw') (Or.inr ⟨by decide, rfl⟩) he1 fun e2 cm2 he2 h2 hc2 => ?_
      refine ⟨hi, ?_⟩
      have hC' := xc_C_s hC (by omega) hL hii hT hc1 hc2
      rw [(hop p (by omega)).1]
      refine pk_eq (o p) 14 (fun q => ?_) (fun q => ?_) rfl rfl (by have := (hop p (by omega)).2; omega) (by decide)
      · exact nm_r (nI_1 p) (ih (p + 1) _ _ _ _ _ _ (by omega) (xc_E_s hE (by omega) hL hii hT hne h1 h2 (Or.inr rfl) ⟨fun _ => Or.inr q, fun _ => rfl⟩) hC')
      · exact nm_r (nI_1 p) (ih (p + 1) _ _ _ _ _ _ (by omega) (xc_E_s hE (by omega) hL hii hT hne h1 h2 he2 ⟨Or.inl, fun z => z.elim id (fun z => absurd z q)⟩) hC')
theorem xc_p2 (post : SX → Prop) {L : Nat} {o : Nat → Nat} {E : Prop} (hl : xl = nI L) (hL : L ≤ 16) (hop : ∀ p, p < 16 → xop p = nI (o p) ∧ o p ≤ 14) (hf : ∀ i, i < 256 → ∀ y, tq_B (xfr i) y → y < 16)
    (he : xe = 0 ∨ xe = 1) (hE : xe = 1 ↔ E)
    (H : ∀ e cm ii nx aw tp, xc_E L o xar xfr E L e → xc_C L o xar xfr L cm → post (xl, xr, e, xop, xar, xlo, xhi, xhv, xfr, cm, xal, xfi, ii, nx, aw, tp)) :
    ∀ d i cm, i + d = 256 → (∀ j, j < i → cm j = 0) → wX_passOn_2 post xl xr xe (d + 1) (nI i) xop xar xlo xhi xhv xfr cm xal xfi xin xnx xaw xtp := by
  intro d
  induction d with
  | zero =>
    intro i cm hi h
    obtain rfl : i = 256 := by omega
    refine br_t (nI_le (a := 256) (b := 256) (Nat.le_refl _) (by decide)) ⟨L + 1, xc_p24 post hl hL hop hf H L 0 xe cm xin xnx xaw xtp (by omega) ⟨he, ?_⟩ fun j hj z => ?_⟩
    · rw [hE]; exact ⟨Or.inl, fun z => z.elim id (fun ⟨a, _, q, _⟩ => by omega)⟩
    · rw [h j hj]; exact ⟨fun q => absurd q (tq_0 z), fun ⟨a, _, q, _⟩ => by omega⟩
  | succ d ih =>
    intro i cm hi h
    rw [wX_passOn_2]
    dsimp only
    rw [nI_clamp (n := i) (by omega)]
    refine br_f (nI_ge (b := 256) (by omega) (by decide)) ⟨vp_in_nI (by omega) (by decide), nm_e (nm_r (nI_1 i) (ih (i + 1) _ (by omega) (lt_s (fun a ha => ?_) pk_us)))⟩
    rw [pk_un (by omega)]; exact h a ha
theorem xc_pass (post : SX → Prop) {L : Nat} {o : Nat → Nat} {E : Prop} (hl : xl = nI L) (hL : L ≤ 16) (hop : ∀ p, p < 16 → xop p = nI (o p) ∧ o p ≤ 14) (hf : ∀ i, i < 256 → ∀ y, tq_B (xfr i) y → y < 16)
    (he : xe = 0 ∨ xe = 1) (hE : xe = 1 ↔ E)
    (H : ∀ e cm ii nx aw tp, xc_E L o xar xfr E L e → xc_C L o xar xfr L cm → post (xl, xr, e, xop, xar, xlo, xhi, xhv, xfr, cm, xal, xfi, ii, nx, aw, tp)) : wpX_passOn post (xl, xr, xe, xop, xar, xlo, xhi, xhv, xfr, xcm, xal, xfi, xin, xnx, xaw, xtp) :=
  ⟨257, xc_p2 post hl hL hop hf he hE H 256 0 xcm rfl lt_0⟩
end
/-! first levels -/
def xc_F (lv : Int32) (G : Nat → Prop) (fi fi' : Nat → Int32) : Prop := ∀ p, p < 16 → (fi p = -5 → G p → fi' p = lv) ∧ (¬ (fi p = -5 ∧ G p) → fi' p = fi p)
theorem xc_F_c {lv : Int32} {G G' : Nat → Prop} {fi fi' : Nat → Int32} (h : xc_F lv G fi fi') (e : ∀ p, p < 16 → (G p ↔ G' p)) : xc_F lv G' fi fi' := fun p hp =>
  ⟨fun a b => (h p hp).1 a ((e p hp).mpr b), fun a => (h p hp).2 fun b => a ⟨b.1, (e p hp).mp b.2⟩⟩
theorem xc_F_u {lv : Int32} {G : Nat → Prop} {fi fi' : Nat → Int32} (h : xc_F lv G fi fi') (hl : ¬ lv = -5) {q : Nat} (hq : q < 16) (hc : fi' q = -5) : xc_F lv (fun p => G p ∨ p = q) fi (upd fi' q lv) := fun p hp => by
  obtain ⟨h1, h2⟩ := h p hp
  by_cases e : p = q
  · subst e
    rw [pk_us]
    have e1 : fi p = -5 := by
      by_cases z : fi p = -5 ∧ G p
      · exact z.1
      · rw [h2 z] at hc; exact hc
    exact ⟨fun _ _ => rfl, fun z => absurd ⟨e1, Or.inr rfl⟩ z⟩
  · rw [pk_un e]
    exact ⟨fun a b => h1 a (b.elim id (fun w => absurd w e)), fun a => h2 fun b => a ⟨b.1, Or.inl b.2⟩⟩
theorem xc_F_k {lv : Int32} {G : Nat → Prop} {fi fi' : Nat → Int32} (h : xc_F lv G fi fi') {q : Nat} (hc : ¬ fi' q = -5) : xc_F lv (fun p => G p ∨ p = q) fi fi' := fun p hp => by
  obtain ⟨h1, h2⟩ := h p hp
  by_cases e : p = q
  · subst e
    by_cases z : fi p = -5 ∧ G p
    · exact ⟨fun a _ => h1 a z.2, fun a => absurd ⟨z.1, Or.inl z.2⟩ a⟩
    · refine ⟨fun a _ => ?_, fun _ => h2 z⟩
      rw [h2 z] at hc
      exact absurd a hc
  · exact ⟨fun a b => h1 a (b.elim id (fun w => absurd w e)), fun a => h2 fun b => a ⟨b.1, Or.inl b.2⟩⟩
theorem xc_F_l {R : Nat → Nat → Nat → Nat → Prop} {I : Nat → Nat → Prop} {k : Nat} {fi fi' : Nat → Int32} (hk : k < 2 ^ 31) (h : xc_F (nI k) (tl_P R I k) fi fi') (h1 : ∀ p, p < 16 → tl_1 R I k p (fi p)) : ∀ p, p < 16 → tl_1 R I (k + 1) p (fi' p) := fun p hp => by
  obtain ⟨g1, g2⟩ := h p hp
  have q := h1 p hp
  by_cases e : fi p = -5
  · by_cases w : tl_P R I k p
    · rw [g1 e w]
      rw [e] at q
      exact tl_1s_y q hk w
    · rw [g2 fun z => w z.2]
      exact tl_1s_n q w
  · rw [g2 fun z => e z.1]
    exact tl_1s_o q e
section
variable {xl xr xe : Int32} {xop xar xlo xhi xhv xfr xcm xal xfi xin xnx xaw xtp : Nat → Int32}
theorem xc_s4 (post : Int32 → SX → Prop) {lv : Int32} (hl : ¬ lv = -5)
    (H : ∀ r hv fr fi, (∀ i, i < 256 → fr i = xcm i &&& (xhv i ^^^ (-1)) ∧ hv i = xhv i ||| fr i) → ((r = 0 ∧ ∀ i, i < 256 → fr i = 0) ∨ (r = 1 ∧ ∃ i, i < 256 ∧ ¬ fr i = 0)) →
      xc_F lv (fun p => ∃ i, i < 256 ∧ i / 16 = p ∧ ¬ fr i = 0) xfi fi → post r (xl, xr, xe, xop, xar, xlo, xhi, hv, fr, xcm, xal, fi, xin, xnx, xaw, xtp)) :
    ∀ d i r hv fr fi, i + d = 256 → (∀ a, a < i → fr a = xcm a &&& (xhv a ^^^ (-1)) ∧ hv a = xhv a ||| fr a) → (∀ a, i ≤ a → hv a = xhv a) →
      ((r = 0 ∧ ∀ a, a < i → fr a = 0) ∨ (r = 1 ∧ ∃ a, a < i ∧ ¬ fr a = 0)) → xc_F lv (fun p => ∃ a, a < i ∧ a / 16 = p ∧ ¬ fr a = 0) xfi fi →
      wX_settle_4 post lv xl xr xe (d + 1) r (nI i) xop xar xlo xhi hv fr xcm xal fi xin xnx xaw xtp := by
  intro d
  induction d with
  | zero =>
    intro i r hv fr fi hi h1 h2 h3 h4
    obtain rfl : i = 256 := by omega
    refine br_t (nI_le (a := 256) (b := 256) (Nat.le_refl _) (by decide)) ⟨?_, H r hv fr fi h1 h3 h4⟩
    rcases h3 with ⟨rfl, _⟩ | ⟨rfl, _⟩ <;> rfl
  | succ d ih =>
    intro i r hv fr fi hi h1 h2 h3 h4
    have hb : vp_in (nI i) 256 := vp_in_nI (by omega) (by decide)
    have h16 : ¬ (16 : Int32) = 0 := by decide
    have hd : nI i / 16 = nI (i / 16) := pk_div (d := 16) (by omega) (by decide) (by decide)
    have hq : vp_in (nI (i / 16)) 16 := vp_in_nI (by omega) (by decide)
    rw [wX_settle_4]
    dsimp only
    rw [hd, nI_clamp (n := i) (by omega), nI_clamp (n := i / 16) (by omega)]
    have ehv : hv i = xhv i := h2 i (Nat.le_refl _)
    have nw : ∀ a, a < i + 1 → upd fr i (xcm i &&& (hv i ^^^ (-1))) a = xcm a &&& (xhv a ^^^ (-1)) ∧ upd hv i (hv i ||| upd fr i (xcm i &&& (hv i ^^^ (-1))) i) a = xhv a ||| upd fr i (xcm i &&& (hv i ^^^ (-1))) a :=
      lt_s (fun a ha => by rw [pk_un (by omega), pk_un (by omega)]; exact h1 a ha) (by rw [pk_us, pk_us, ehv]; exact ⟨rfl, rfl⟩)
    have n2 : ∀ a, i + 1 ≤ a → upd hv i (hv i ||| upd fr i (xcm i &&& (hv i ^^^ (-1))) i) a = xhv a := fun a ha => by rw [pk_un (by omega)]; exact h2 a (by omega)
    refine br_f (nI_ge (b := 256) (by omega) (by decide)) ⟨hb, hb, hb, nm_e ⟨hb, hb, hb, nm_e ⟨hb, ?_⟩⟩⟩
    generalize hfr : upd fr i (xcm i &&& (hv i ^^^ (-1))) = fr' at nw n2 ⊢
    generalize hhv : upd hv i (hv i ||| fr' i) = hv' at nw n2 ⊢
    have ne : ∀ a, a < i → fr' a = fr a := fun a ha => by rw [← hfr, pk_un (by omega)]
    refine br_c (fun z => nm_r (nI_1 i) (ih (i + 1) r hv' fr' fi (by omega) nw n2 ?_ (xc_F_c h4 fun p hp => ?_))) (fun z => ⟨h16, hq, br_c (fun w => ⟨h16, hq, nm_e (nm_r (nI_1 i) (ih (i + 1) 1 hv' fr' _ (by omega) nw n2 (Or.inr ⟨rfl, i, by omega, z⟩) (xc_F_c (xc_F_u h4 hl (by omega) w) fun p hp => ?_)))⟩) (fun w => nm_r (nI_1 i) (ih (i + 1) 1 hv' fr' fi (by omega) nw n2 (Or.inr ⟨rfl, i, by omega, z⟩) (xc_F_c (xc_F_k h4 w) fun p hp => ?_)))⟩)
    · rcases h3 with ⟨e, q⟩ | ⟨e, a, ha, q⟩
      · exact Or.inl ⟨e, lt_s (fun a ha => by rw [ne a ha]; exact q a ha) z⟩
      · exact Or.inr ⟨e, a, by omega, by rw [ne a ha]; exact q⟩
    · constructor
      · rintro ⟨a, ha, q1, q2⟩; exact ⟨a, by omega, q1, by rw [ne a ha]; exact q2⟩
      · rintro ⟨a, ha, q1, q2⟩
        by_cases e : a = i
        · subst e; exact absurd z q2
        · have ha' : a < i := by omega
          exact ⟨a, ha', q1, by rw [← ne a ha']; exact q2⟩
    · constructor
      · rintro (⟨a, ha, q1, q2⟩ | q)
        · exact ⟨a, by omega, q1, by rw [ne a ha]; exact q2⟩
        · exact ⟨i, by omega, q.symm, z⟩
      · rintro ⟨a, ha, q1, q2⟩
        by_cases e : a = i
        · subst e; exact Or.inr q1.symm
        · have ha' : a < i := by omega
          exact Or.inl ⟨a, ha', q1, by rw [← ne a ha']; exact q2⟩
    · constructor
      · rintro (⟨a, ha, q1, q2⟩ | q)
        · exact ⟨a, by omega, q1, by rw [ne a ha]; exact q2⟩
        · exact ⟨i, by omega, q.symm, z⟩
      · rintro ⟨a, ha, q1, q2⟩
        by_cases e : a = i
        · subst e; exact Or.inr q1.symm
        · have ha' : a < i := by omega
          exact Or.inl ⟨a, ha', q1, by rw [← ne a ha']; exact q2⟩
theorem xc_settle (post : Int32 → SX → Prop) {lv : Int32} (hl : ¬ lv = -5)
    (H : ∀ r hv fr fi, (∀ i, i < 256 → fr i = xcm i &&& (xhv i ^^^ (-1)) ∧ hv i = xhv i ||| fr i) → ((r = 0 ∧ ∀ i, i < 256 → fr i = 0) ∨ (r = 1 ∧ ∃ i, i < 256 ∧ ¬ fr i = 0)) →
      xc_F lv (fun p => ∃ i, i < 256 ∧ i / 16 = p ∧ ¬ fr i = 0) xfi fi → post r (xl, xr, xe, xop, xar, xlo, xhi, hv, fr, xcm, xal, fi, xin, xnx, xaw, xtp)) : wpX_settle post (xl, xr, xe, xop, xar, xlo, xhi, xhv, xfr, xcm, xal, xfi, xin, xnx, xaw, xtp) lv :=
  ⟨257, xc_s4 post hl H 256 0 0 xhv xfr xfi rfl lt_0 (fun _ _ => rfl) (Or.inl ⟨rfl, lt_0⟩) fun p hp => ⟨fun _ ⟨a, ha, _⟩ => by omega, fun _ => rfl⟩⟩
end
end
section
/-! runs without end, the plain part: one row after another is cut to what leads on -/
def xd_S (al : Nat → Int32) (i y : Nat) : Prop := i < 256 ∧ tq_B (al i) y
def xd_PI (R : Nat → Nat → Nat → Nat → Prop) (A : Nat → Nat → Prop) (al0 al : Nat → Int32) (lost : Int32) (D : Nat → Prop) : Prop :=
  tl_BG R A (xd_S al) ∧ ((lost = 0 ∧ al = al0 ∧ ∀ i y, D i → xd_S al i y → ∃ j z, R i y j z ∧ xd_S al j z) ∨ (lost = 1 ∧ tq_N (xd_S al) < tq_N (xd_S al0)))
def xd_OI (R : Nat → Nat → Nat → Nat → Prop) (A : Nat → Nat → Prop) (k : Nat) (lost : Int32) (al : Nat → Int32) : Prop :=
  tl_BG R A (xd_S al) ∧ ((lost = 0 ∧ tl_PF R (xd_S al)) ∨ (lost = 1 ∧ tq_N (xd_S al) + k ≤ 4096))
section
variable {R : Nat → Nat → Nat → Nat → Prop} {A : Nat → Nat → Prop}
theorem xd_upd_self (al : Nat → Int32) (r : Nat) : upd al r (al r) = al := funext fun j => by
  by_cases e : j = r
  · subst e; exact pk_us
  · exact pk_un e
theorem xd_start {al : Nat → Int32} (h : tl_BG R A (xd_S al)) {D : Nat → Prop} (hD : ∀ i y, D i → ¬ A i y) : xd_PI R A al al 0 D :=
  ⟨h, Or.inl ⟨rfl, rfl, fun i y d s => absurd (h.1 i y s) (hD i y d)⟩⟩
theorem xd_PI_c {al0 al : Nat → Int32} {lost : Int32} {D D' : Nat → Prop} (h : xd_PI R A al0 al lost D) (e : ∀ i, i < 256 → D' i → D i) : xd_PI R A al0 al lost D' :=
  ⟨h.1, h.2.elim (fun q => Or.inl ⟨q.1, q.2.1, fun i y d s => q.2.2 i y (e i s.1 d) s⟩) Or.inr⟩
theorem xd_step (hA : ∀ i y, A i y → i < 256 ∧ y < 16) {al0 al : Nat → Int32} {lost : Int32} {D : Nat → Prop} (h : xd_PI R A al0 al lost D) {r : Nat} {k : Int32} (hr : r < 256)
    (hk : ∀ y, tq_B k y ↔ tq_B (al r) y ∧ ∃ j z, R r y j z ∧ xd_S al j z) :
    (k = al r → xd_PI R A al0 (upd al r k) lost (fun i => D i ∨ i = r)) ∧ (¬ k = al r → xd_PI R A al0 (upd al r k) 1 (fun i => D i ∨ i = r)) := by
  constructor
  · intro e
    subst e
    rw [xd_upd_self]
    refine ⟨h.1, h.2.elim (fun q => Or.inl ⟨q.1, q.2.1, fun i y d s => d.elim (fun d => q.2.2 i y d s) (fun d => ?_)⟩) Or.inr⟩
    subst d
    exact ((hk y).mp s.2).2
  · intro e
    have g1 : ∀ i y, i ≠ r → (xd_S (upd al r k) i y ↔ xd_S al i y) := fun i y q => by unfold xd_S; rw [pk_un q]
    have g2 : ∀ y, xd_S (upd al r k) r y ↔ xd_S al r y ∧ ∃ j z, R r y j z ∧ xd_S al j z := fun y => by
      show r < 256 ∧ tq_B (upd al r k r) y ↔ (r < 256 ∧ tq_B (al r) y) ∧ _
      rw [pk_us, hk]
      exact ⟨fun q => ⟨⟨q.1, q.2.1⟩, q.2.2⟩, fun q => ⟨q.1.1, q.1.2, q.2⟩⟩
    have hs : ∀ i y, xd_S (upd al r k) i y → xd_S al i y := fun i y s => by
      by_cases q : i = r
      · subst q; exact ((g2 y).mp s).1
      · exact (g1 i y q).mp s
    have hne : ∃ y, tq_B (al r) y ∧ ¬ tq_B k y := by
      refine Classical.byContradiction fun q => e (tq_ext fun y => ⟨fun z => ((hk y).mp z).1, fun z => ?_⟩)
      exact Classical.byContradiction fun w => q ⟨y, z, w⟩
    obtain ⟨y, q1, q2⟩ := hne
    have hy := (hA r y (h.1.1 r y ⟨hr, q1⟩)).2
    have hlt : tq_N (xd_S (upd al r k)) < tq_N (xd_S al) := tq_N_lt (fun i _ y _ => hs i y) hr hy (fun w => q2 (by have := w.2; rw [pk_us] at this; exact this)) ⟨hr, q1⟩
    refine ⟨tl_BG_s h.1 g1 g2, Or.inr ⟨rfl, ?_⟩⟩
    rcases h.2 with ⟨_, e2, _⟩ | ⟨_, w⟩
    · subst e2; exact hlt
    · omega
theorem xd_comp {al0 al1 al2 : Nat → Int32} {l1 l2 l3 : Int32} {D D' : Nat → Prop} (h : xd_PI R A al0 al1 l1 D) (h' : xd_PI R A al1 al2 l2 D') (e : (l1 = 0 ∧ l2 = 0 ∧ l3 = 0) ∨ ((l1 = 1 ∨ l2 = 1) ∧ l3 = 1)) :
    xd_PI R A al0 al2 l3 (fun i => D i ∨ D' i) := by
  refine ⟨h'.1, ?_⟩
  have z01 : ∀ {l : Int32}, l = 0 → l = 1 → False := fun a b => by rw [a] at b; exact absurd b (by decide)
  rcases e with ⟨e1, e2, e3⟩ | ⟨e1, e3⟩
  · rcases h.2 with ⟨_, a1, a2⟩ | ⟨a, _⟩
    · rcases h'.2 with ⟨_, b1, b2⟩ | ⟨b, _⟩
      · subst b1
        exact Or.inl ⟨e3, a1, fun i y d s => d.elim (fun d => a2 i y d s) (fun d => b2 i y d s)⟩
      · exact (z01 e2 b).elim
    · exact (z01 e1 a).elim
  · refine Or.inr ⟨e3, ?_⟩
    rcases h.2 with ⟨a0, a1, a2⟩ | ⟨a, a1⟩
    · rcases h'.2 with ⟨b0, b1, b2⟩ | ⟨b, b1⟩
      · exact e1.elim (fun q => (z01 a0 q).elim) (fun q => (z01 b0 q).elim)
      · rw [← a1]; exact b1
    · rcases h'.2 with ⟨b0, b1, b2⟩ | ⟨b, b1⟩
      · rw [b1]; exact a1
      · omega
theorem xd_round {al0 al : Nat → Int32} {k : Nat} {lost : Int32} {D : Nat → Prop} (hN : tq_N (xd_S al0) + k ≤ 4096) (h : xd_PI R A al0 al lost D) (hD : ∀ i, i < 256 → D i) : xd_OI R A (k + 1) lost al := by
  refine ⟨h.1, ?_⟩
  rcases h.2 with ⟨a0, a1, a2⟩ | ⟨a, a1⟩
  · exact Or.inl ⟨a0, fun i y s => a2 i y (hD i s.1) s⟩
  · exact Or.inr ⟨a, by omega⟩
theorem xd_OI_0 {al : Nat → Int32} (hA : ∀ i y, A i y → i < 256) (h : ∀ i, i < 256 → ∀ y, tq_B (al i) y ↔ A i y) : xd_OI R A 0 1 al :=
  ⟨tl_BG_c (tl_BG_0 A) fun i y => ⟨fun z => ⟨hA i y z, (h i (hA i y z) y).mpr z⟩, fun z => (h i z.1 y).mp z.2⟩, Or.inr ⟨rfl, by rw [Nat.add_zero]; exact tq_N_bd _⟩⟩
theorem xd_OI_e {al : Nat → Int32} {k : Nat} {lost : Int32} (h : xd_OI R A k lost al) (hk : 4096 < k ∨ lost = 0) : tl_BG R A (xd_S al) ∧ tl_PF R (xd_S al) := by
  refine ⟨h.1, ?_⟩
  rcases h.2 with ⟨_, q⟩ | ⟨a, b⟩
  · exact q
  · rcases hk with z | z
    · omega
    · rw [a] at z; exact absurd z (by decide)
end
end
section
/-! the component's runs without end -/
section
variable {xl xr xe : Int32} {xop xar xlo xhi xhv xfr xcm xal xfi xin xnx xaw xtp : Nat → Int32}
theorem xe_a37 (post : Int32 → Prop) (J : Int32 → Prop) {t x : Nat} (w z : Int32) (ht : t < 16) (hx : x < 16) (h0 : z &&& xal (t * 16 + x) = 0 → J (nI (x + 1))) (h1 : ¬ z &&& xal (t * 16 + x) = 0 → post 1) : wX_anyAlive_37 post J (nI t) w (nI x) z xl xr xe xop xar xlo xhi xhv xfr xcm xal xfi xin xnx xaw xtp := by
  unfold wX_anyAlive_37
  rw [tn_ix, nI_clamp (n := t * 16 + x) (by omega)]
  exact ⟨vp_in_nI (by omega) (by decide), br_c (fun q => nm_r (nI_1 x) (h0 q)) h1⟩
theorem xe_a12 (post : Int32 → Prop) {t : Nat} {w : Int32} {R : Nat → Int32} (hR : (w = 0 ∧ R = xnx) ∨ (¬ w = 0 ∧ R = xaw)) (ht : t < 16)
    (H0 : (∀ a, a < 16 → R a &&& xal (t * 16 + a) = 0) → post 0) (H1 : (∃ a, a < 16 ∧ ¬ R a &&& xal (t * 16 + a) = 0) → post 1) :
    ∀ d x, x + d = 16 → (∀ a, a < x → R a &&& xal (t * 16 + a) = 0) → wX_anyAlive_12 post (nI t) w xl xr xe xop xar xlo xhi xhv xfr xcm xal xfi xin xnx xaw xtp (d + 1) (nI x) := by
  intro d
  induction d with
  | zero =>
    intro x hx h
    obtain rfl : x = 16 := by omega
    exact br_t (nI_le (a := 16) (b := 16) (Nat.le_refl _) (by decide)) (H0 h)
  | succ d ih =>
    intro x hx h
    have hi : vp_in (nI x) 16 := vp_in_nI (by omega) (by decide)
    rw [wX_anyAlive_12]
    dsimp only
    rw [nI_clamp (n := x) (by omega)]
    refine br_f (nI_ge (b := 16) (by omega) (by decide)) ?_
    have k0 : R x &&& xal (t * 16 + x) = 0 → wX_anyAlive_12 post (nI t) w xl xr xe xop xar xlo xhi xhv xfr xcm xal xfi xin xnx xaw xtp (d + 1) (nI (x + 1)) := fun z => ih (x + 1) (by omega) (lt_s h z)
    have k1 : ¬ R x &&& xal (t * 16 + x) = 0 → post 1 := fun z => H1 ⟨x, by omega, z⟩
    rcases hR with ⟨hw, hR⟩ | ⟨hw, hR⟩
    · subst hR
      exact br_t hw ⟨hi, xe_a37 post _ w _ ht (by omega) k0 k1⟩
    · subst hR
      exact br_f hw ⟨hi, xe_a37 post _ w _ ht (by omega) k0 k1⟩
theorem xe_any (post : Int32 → Prop) {L : Nat} (hl : xl = nI L) (hL : L ≤ 16) (t w : Int32) {R : Nat → Int32} (hR : (w = 0 ∧ R = xnx) ∨ (¬ w = 0 ∧ R = xaw))
    (H : ∀ r : Int32, (r = 0 ∨ r = 1) → (r = 1 ↔ ∃ k, k < L ∧ t = nI k ∧ ∃ a z, a < 16 ∧ tq_B (R a) z ∧ tq_B (xal (k * 16 + a)) z) → post r) : wpX_anyAlive post (xl, xr, xe, xop, xar, xlo, xhi, xhv, xfr, xcm, xal, xfi, xin, xnx, xaw, xtp) t w := by
  unfold wpX_anyAlive
  dsimp only
  refine xb_no _ hl hL t (fun k hk e => br_t rfl ⟨17, ?_⟩) (fun h => br_f (by decide) (H 0 (Or.inl rfl) ⟨fun z => absurd z (by decide), fun ⟨k, hk, e, _⟩ => absurd ⟨k, hk, e⟩ h⟩))
  subst e
  refine xe_a12 post hR (by omega) (fun h => H 0 (Or.inl rfl) ⟨fun z => absurd z (by decide), ?_⟩) (fun h => H 1 (Or.inr rfl) ⟨fun _ => ?_, fun _ => rfl⟩) 16 0 rfl lt_0
  · rintro ⟨k', hk', e, a, z, ha, q1, q2⟩
    have e' := (nI_eq (by omega) (by omega)).mp e
    subst e'
    exact absurd ((tq_and _ _ z).mpr ⟨q1, q2⟩) (by rw [h a ha]; exact tq_0 z)
  · obtain ⟨a, ha, q⟩ := h
    obtain ⟨z, q⟩ := tq_nz.mp q
    have := (tq_and _ _ z).mp q
    exact ⟨k, hk, rfl, a, z, ha, this.1, this.2⟩
theorem xe_l3 (post : Int32 → SX → Prop) {L p x y : Nat} {o : Nat → Nat} (hl : xl = nI L) (hL : L ≤ 16) (hop : ∀ p, p < 16 → xop p = nI (o p) ∧ o p ≤ 14) (hp : p < L) (hx : x < 16) (hy : y < 16)
    (H : ∀ r ii nx aw tp, (r = 0 ∨ r = 1) → (r = 1 ↔ ∃ j z, ta_SR L o xar (p * 16 + x) y j z ∧ xd_S xal j z) → post r (xl, xr, xe, xop, xar, xlo, xhi, xhv, xfr, xcm, xal, xfi, ii, nx, aw, tp)) :
    ∀ d i ii, i + d = 16 → (∀ a, a < i → ∀ b, tq_B (ii a) b ↔ a = x ∧ b = y) → wX_leadsOn_3 post (nI p) (nI x) (nI y) xl xr xe (d + 1) (nI i) xop xar xlo xhi xhv xfr xcm xal xfi ii xnx xaw xtp := by
  intro d
  induction d with
  | zero =>
    intro i ii hi h
    obtain rfl : i = 16 := by omega
    refine br_t (nI_le (a := 16) (b := 16) (Nat.le_refl _) (by decide)) (xa_transfer _ (by omega) (hop p (by omega)).1 rfl (hop p (by omega)).2 (fun a ha b z => by have := (h a ha b).mp z; omega) fun nx aw tp hT => ?_)
    refine xe_any _ hl hL (nI p + 1) 0 (R := nx) (Or.inl ⟨rfl, rfl⟩) fun r1 hr1 h1 => ⟨vp_in_nI (by omega) (by decide), ?_⟩
    rw [nI_clamp (n := p) (by omega)]
    rw [nI_1] at h1
    refine xe_any _ hl hL (xar p) 1 (R := aw) (Or.inr ⟨by decide, rfl⟩) fun r2 hr2 h2 => ?_
    have e1 : r1 = 1 ↔ p + 1 < L ∧ ∃ j z, j / 16 = p + 1 ∧ ta_NX (o p) (xar p) x y (j % 16) z ∧ xd_S xal j z := by
      rw [h1]
      constructor
      · rintro ⟨k, hk, e, a, z, ha, q1, q2⟩
        have e' := (nI_eq (by omega) (by omega)).mp e
        subst e'
        obtain ⟨x0, y0, ⟨hx0, q3⟩, q4⟩ := (hT a ha z).1.mp q1
        obtain ⟨rfl, rfl⟩ := (h x0 hx0 y0).mp q3
        exact ⟨hk, (p + 1) * 16 + a, z, by omega, by rw [show ((p + 1) * 16 + a) % 16 = a by omega]; exact q4, by omega, q2⟩
      · rintro ⟨hk, j, z, e, q1, q2⟩
        have hm : j % 16 < 16 := Nat.mod_lt _ (by decide)
        refine ⟨p + 1, hk, rfl, j % 16, z, hm, (hT (j % 16) hm z).1.mpr ⟨x, y, ⟨hx, (h x hx y).mpr ⟨rfl, rfl⟩⟩, q1⟩, ?_⟩
        rw [show (p + 1) * 16 + j % 16 = j by omega]; exact q2.2
    have e2 : r2 = 1 ↔ ∃ j z, ta_AW (o p) x y ∧ z = y ∧ j / 16 < L ∧ xar p = nI (j / 16) ∧ j % 16 = x ∧ xd_S xal j z := by
      rw [h2]
      constructor
      · rintro ⟨k, hk, e, a, z, ha, q1, q2⟩
        obtain ⟨⟨_, q3⟩, q4⟩ := (hT a ha z).2.1.mp q1
        obtain ⟨rfl, rfl⟩ := (h a ha z).mp q3
        exact ⟨k * 16 + a, z, q4, rfl, by omega, by rw [show (k * 16 + a) / 16 = k by omega]; exact e, by omega, by omega, q2⟩
      · rintro ⟨j, z, q1, rfl, q2, q3, q4, q5⟩
        refine ⟨j / 16, q2, q3, x, z, hx, (hT x hx z).2.1.mpr ⟨⟨hx, (h x hx z).mpr ⟨rfl, rfl⟩⟩, q1⟩, ?_⟩
        rw [show j / 16 * 16 + x = j by omega]; exact q5.2
    have e3 : (∃ j z, ta_SR L o xar (p * 16 + x) y j z ∧ xd_S xal j z) ↔ r1 = 1 ∨ r2 = 1 := by
      rw [e1, e2]
      constructor
      · rintro ⟨j, z, q, s⟩
        rcases (tn_SR hx y j z).mp q with ⟨q1, q2, q3⟩ | ⟨q1, q2, q3, q4, q5⟩
        · exact Or.inl ⟨q1, j, z, q2, q3, s⟩
        · exact Or.inr ⟨j, z, q1, q2, q3, q4, q5, s⟩
      · rintro (⟨q1, j, z, q2, q3, s⟩ | ⟨j, z, q1, q2, q3, q4, q5, s⟩)
        · exact ⟨j, z, (tn_SR hx y j z).mpr (Or.inl ⟨q1, q2, q3⟩), s⟩
        · exact ⟨j, z, (tn_SR hx y j z).mpr (Or.inr ⟨q1, q2, q3, q4, q5⟩), s⟩
    have H' := fun r => H r ii nx aw tp
    rw [e3] at H'
    rcases hr1 with rfl | rfl
    · refine br_t rfl ?_
      rcases hr2 with rfl | rfl
      · exact br_t rfl (H' 0 (Or.inl rfl) ⟨fun z => absurd z (by decide), fun z => z.elim (fun z => absurd z (by decide)) (fun z => absurd z (by decide))⟩)
      · exact br_f (by decide) (H' 1 (Or.inr rfl) ⟨fun _ => Or.inr rfl, fun _ => rfl⟩)
    · exact br_f (by decide) (H' 1 (Or.inr rfl) ⟨fun _ => Or.inl rfl, fun _ => rfl⟩)
  | succ d ih =>
    intro i ii hi h
    have hb : vp_in (nI i) 16 := vp_in_nI (by omega) (by decide)
    rw [wX_leadsOn_3]
    dsimp only
    rw [nI_clamp (n := i) (by omega)]
    refine br_f (nI_ge (b := 16) (by omega) (by decide)) (pk_eq i x (fun e => ⟨hb, nm_e (nm_r (nI_1 i) (ih (i + 1) _ (by omega) (lt_s (fun a ha b => ?_) fun b => ?_)))⟩) (fun e => ⟨hb, nm_e (nm_r (nI_1 i) (ih (i + 1) _ (by omega) (lt_s (fun a ha b => ?_) fun b => ?_)))⟩) rfl rfl (by omega) (by omega))
    · rw [pk_un (by omega)]; exact h a ha b
    · rw [pk_us, tq_one (by omega)]; exact ⟨fun q => ⟨e, q⟩, fun q => q.2⟩
    · rw [pk_un (by omega)]; exact h a ha b
    · rw [pk_us]; exact ⟨fun q => absurd q (tq_0 b), fun q => absurd q.1 e⟩
theorem xe_leads (post : Int32 → SX → Prop) {L p x y : Nat} {o : Nat → Nat} (hl : xl = nI L) (hL : L ≤ 16) (hop : ∀ p, p < 16 → xop p = nI (o p) ∧ o p ≤ 14) (hp : p < L) (hx : x < 16) (hy : y < 16)
    (H : ∀ r ii nx aw tp, (r = 0 ∨ r = 1) → (r = 1 ↔ ∃ j z, ta_SR L o xar (p * 16 + x) y j z ∧ xd_S xal j z) → post r (xl, xr, xe, xop, xar, xlo, xhi, xhv, xfr, xcm, xal, xfi, ii, nx, aw, tp)) : wpX_leadsOn post (xl, xr, xe, xop, xar, xlo, xhi, xhv, xfr, xcm, xal, xfi, xin, xnx, xaw, xtp) (nI p) (nI x) (nI y) :=
  ⟨17, xe_l3 post hl hL hop hp hx hy H 16 0 xin rfl lt_0⟩
theorem xe_p16 (post : Int32 → SX → Prop) (J : Int32 → Int32 → Int32 → Int32 → Int32 → (Nat → Int32) → (Nat → Int32) → (Nat → Int32) → (Nat → Int32) → (Nat → Int32) → (Nat → Int32) → (Nat → Int32) → (Nat → Int32) → (Nat → Int32) → (Nat → Int32) → (Nat → Int32) → (Nat → Int32) → (Nat → Int32) → Prop) {L p x : Nat} {o : Nat → Nat} {lost : Int32} (hl : xl = nI L) (hL : L ≤ 16) (hop : ∀ p, p < 16 → xop p = nI (o p) ∧ o p ≤ 14) (hp : p < L) (hx : x < 16)
    (hf : ∀ y, tq_B (xal (p * 16 + x)) y → y < 16)
    (H : ∀ k ii nx aw tp, (∀ y, tq_B k y ↔ tq_B (xal (p * 16 + x)) y ∧ ∃ j z, ta_SR L o xar (p * 16 + x) y j z ∧ xd_S xal j z) →
      (k = xal (p * 16 + x) → J lost (nI (x + 1)) xl xr xe xop xar xlo xhi xhv xfr xcm (upd xal (p * 16 + x) k) xfi ii nx aw tp) ∧ (¬ k = xal (p * 16 + x) → J 1 (nI (x + 1)) xl xr xe xop xar xlo xhi xhv xfr xcm (upd xal (p * 16 + x) k) xfi ii nx aw tp)) :
    ∀ d y k ii nx aw tp, y + d = 16 → (∀ z, tq_B k z ↔ z < y ∧ tq_B (xal (p * 16 + x)) z ∧ ∃ j w, ta_SR L o xar (p * 16 + x) z j w ∧ xd_S xal j w) →
      wX_prune_16 post J (nI p) lost (nI x) (d + 1) k (nI y) xl xr xe xop xar xlo xhi xhv xfr xcm xal xfi ii nx aw tp := by
  have hi : vp_in (nI (p * 16 + x)) 256 := vp_in_nI (by omega) (by decide)
  intro d
  induction d with
  | zero =>
    intro y k ii nx aw tp hy h
    obtain rfl : y = 16 := by omega
    have hk : ∀ y, tq_B k y ↔ tq_B (xal (p * 16 + x)) y ∧ ∃ j z, ta_SR L o xar (p * 16 + x) y j z ∧ xd_S xal j z := fun y => by
      rw [h]; exact ⟨fun q => q.2, fun q => ⟨hf y q.1, q⟩⟩
    obtain ⟨g0, g1⟩ := H k ii nx aw tp hk
    rw [wX_prune_16]
    dsimp only
    rw [tn_ix, nI_clamp (n := p * 16 + x) (by omega)]
    refine br_t (nI_le (a := 16) (b := 16) (Nat.le_refl _) (by decide)) ⟨hi, br_c (fun q => ?_) (fun q => ?_)⟩
    · unfold wX_prune_91
      rw [tn_ix, nI_clamp (n := p * 16 + x) (by omega)]
      exact ⟨hi, nm_e (nm_r (nI_1 x) (g0 q))⟩
    · unfold wX_prune_91
      rw [tn_ix, nI_clamp (n := p * 16 + x) (by omega)]
      exact ⟨hi, nm_e (nm_r (nI_1 x) (g1 q))⟩
  | succ d ih =>
    intro y k ii nx aw tp hy h
    rw [wX_prune_16]
    dsimp only
    rw [tn_ix, nI_clamp (n := p * 16 + x) (by omega)]
    refine br_f (nI_ge (b := 16) (by omega) (by decide)) ⟨hi, ?_⟩
    have skip : (¬ (tq_B (xal (p * 16 + x)) y ∧ ∃ j w, ta_SR L o xar (p * 16 + x) y j w ∧ xd_S xal j w)) → (∀ z, tq_B k z ↔ z < y + 1 ∧ tq_B (xal (p * 16 + x)) z ∧ ∃ j w, ta_SR L o xar (p * 16 + x) z j w ∧ xd_S xal j w) := fun hn z => by
      rw [h]
      refine ⟨fun q => ⟨by omega, q.2⟩, fun q => ⟨?_, q.2⟩⟩
      by_cases e : z = y
      · subst e; exact absurd q.2 hn
      · omega
    by_cases hb : tq_B (xal (p * 16 + x)) y
    · refine br_t ((tq_bit _ (by omega)).mpr hb) (xe_leads _ hl hL hop hp hx (by omega) fun r ii' nx' aw' tp' hr hr1 => ?_)
      rcases hr with rfl | rfl
      · refine br_t rfl (nm_r (nI_1 y) (ih (y + 1) k _ _ _ _ (by omega) (skip fun q => ?_)))
        exact absurd (hr1.mpr q.2) (by decide)
      · refine br_f (by decide) (nm_e (nm_r (nI_1 y) (ih (y + 1) _ _ _ _ _ (by omega) fun z => ?_)))
        rw [tq_or, tq_one (by omega), h]
        constructor
        · rintro (q | q)
          · exact ⟨by omega, q.2⟩
          · subst q; exact ⟨by omega, hb, hr1.mp rfl⟩
        · intro q
          by_cases e : z = y
          · exact Or.inr e
          · exact Or.inl ⟨by omega, q.2⟩
    · exact br_f (fun z => hb ((tq_bit _ (by omega)).mp z)) (nm_r (nI_1 y) (ih (y + 1) k _ _ _ _ (by omega) (skip fun q => hb q.1)))
theorem xe_p4 (post : Int32 → SX → Prop) {L p : Nat} {o : Nat → Nat} {A : Nat → Nat → Prop} {al0 : Nat → Int32} (hl : xl = nI L) (hL : L ≤ 16) (hop : ∀ p, p < 16 → xop p = nI (o p) ∧ o p ≤ 14) (hp : p < L) (hA : ∀ i y, A i y → i < 256 ∧ y < 16)
    (H : ∀ r al ii nx aw tp, xd_PI (ta_SR L o xar) A al0 al r (fun i => i / 16 = p) → post r (xl, xr, xe, xop, xar, xlo, xhi, xhv, xfr, xcm, al, xfi, ii, nx, aw, tp)) :
    ∀ d x lost al ii nx aw tp, x + d = 16 → xd_PI (ta_SR L o xar) A al0 al lost (fun i => i / 16 = p ∧ i % 16 < x) → wX_prune_4 post (nI p) (d + 1) lost (nI x) xl xr xe xop xar xlo xhi xhv xfr xcm al xfi ii nx aw tp := by
  intro d
  induction d with
  | zero =>
    intro x lost al ii nx aw tp hx h
    obtain rfl : x = 16 := by omega
    refine br_t (nI_le (a := 16) (b := 16) (Nat.le_refl _) (by decide)) ⟨?_, H _ _ _ _ _ _ (xd_PI_c h fun i _ q => ⟨q, Nat.mod_lt _ (by decide)⟩)⟩
    rcases h.2 with ⟨rfl, _⟩ | ⟨rfl, _⟩ <;> rfl
  | succ d ih =>
    intro x lost al ii nx aw tp hx h
    rw [wX_prune_4]
    refine br_f (nI_ge (b := 16) (by omega) (by decide)) ⟨17, ?_⟩
    have hf : ∀ y, tq_B (al (p * 16 + x)) y → y < 16 := fun y q => (hA (p * 16 + x) y (h.1.1 _ _ ⟨by omega, q⟩)).2
    refine xe_p16 post _ hl hL hop hp (by omega) hf (fun k ii' nx' aw' tp' hk => ?_) 16 0 0 ii nx aw tp rfl (fun z => ⟨fun q => absurd q (tq_0 z), fun q => by omega⟩)
    obtain ⟨g0, g1⟩ := xd_step hA h (r := p * 16 + x) (by omega) hk
    have cv : ∀ i, i < 256 → (i / 16 = p ∧ i % 16 < x + 1) → (i / 16 = p ∧ i % 16 < x) ∨ i = p * 16 + x := fun i _ q => by omega
    exact ⟨fun e => ih (x + 1) _ _ _ _ _ _ (by omega) (xd_PI_c (g0 e) cv), fun e => ih (x + 1) _ _ _ _ _ _ (by omega) (xd_PI_c (g1 e) cv)⟩
theorem xe_prune (post : Int32 → SX → Prop) {L p : Nat} {o : Nat → Nat} {A : Nat → Nat → Prop} (hl : xl = nI L) (hL : L ≤ 16) (hop : ∀ p, p < 16 → xop p = nI (o p) ∧ o p ≤ 14) (hp : p < L) (hA : ∀ i y, A i y → i < 256 ∧ y < 16) (hB : tl_BG (ta_SR L o xar) A (xd_S xal))
    (H : ∀ r al ii nx aw tp, xd_PI (ta_SR L o xar) A xal al r (fun i => i / 16 = p) → post r (xl, xr, xe, xop, xar, xlo, xhi, xhv, xfr, xcm, al, xfi, ii, nx, aw, tp)) : wpX_prune post (xl, xr, xe, xop, xar, xlo, xhi, xhv, xfr, xcm, xal, xfi, xin, xnx, xaw, xtp) (nI p) :=
  ⟨17, xe_p4 post hl hL hop hp hA H 16 0 0 xal xin xnx xaw xtp rfl (xd_start hB fun i y q => by omega)⟩
theorem xe_f51 (post : SX → Prop) (J : Int32 → Int32 → Int32 → Int32 → Int32 → (Nat → Int32) → (Nat → Int32) → (Nat → Int32) → (Nat → Int32) → (Nat → Int32) → (Nat → Int32) → (Nat → Int32) → (Nat → Int32) → (Nat → Int32) → (Nat → Int32) → (Nat → Int32) → (Nat → Int32) → (Nat → Int32) → Prop) {L k : Nat} {o : Nat → Nat} {A : Nat → Nat → Prop} {al0 : Nat → Int32} (hl : xl = nI L) (hL : L ≤ 16) (hop : ∀ p, p < 16 → xop p = nI (o p) ∧ o p ≤ 14) (hA : ∀ i y, A i y → i < 256 ∧ y < 16)
    (H : ∀ lost al ii nx aw tp, xd_PI (ta_SR L o xar) A al0 al lost (fun _ => True) → J lost (nI (k + 1)) xl xr xe xop xar xlo xhi xhv xfr xcm al xfi ii nx aw tp) :
    ∀ q lost al ii nx aw tp, q ≤ L → xd_PI (ta_SR L o xar) A al0 al lost (fun i => q * 16 ≤ i) → wX_findEndless_51 post J (nI k) (q + 1) lost (nI q - 1) xl xr xe xop xar xlo xhi xhv xfr xcm al xfi ii nx aw tp := by
  intro q
  induction q with
  | zero =>
    intro lost al ii nx aw tp hq h
    exact br_t (by decide +kernel) (nm_r (nI_1 k) (H _ _ _ _ _ _ (xd_PI_c h fun i _ _ => by omega)))
  | succ q ih =>
    intro lost al ii nx aw tp hq h
    rw [wX_findEndless_51]
    dsimp only
    rw [nI_pred]
    have hm : nI q + (-1) = nI q - 1 := by rw [Int32.sub_eq_add_neg]
    refine br_f (nI_pos (by omega)) (xe_prune _ hl hL hop (by omega) hA h.1 fun r al' ii' nx' aw' tp' h' => ?_)
    have cv : ∀ i, i < 256 → q * 16 ≤ i → ((q + 1) * 16 ≤ i ∨ i / 16 = q) := fun i _ z => by omega
    have hlost : lost = 0 ∨ lost = 1 := h.2.elim (fun z => Or.inl z.1) (fun z => Or.inr z.1)
    have hr : r = 0 ∨ r = 1 := h'.2.elim (fun z => Or.inl z.1) (fun z => Or.inr z.1)
    rcases hlost with rfl | rfl
    · refine br_t rfl ?_
      rcases hr with rfl | rfl
      · exact br_t rfl (nm_r hm (ih _ _ _ _ _ _ (by omega) (xd_PI_c (xd_comp (l3 := 0) h h' (Or.inl ⟨rfl, rfl, rfl⟩)) cv)))
      · exact br_f (by decide) (nm_r hm (ih _ _ _ _ _ _ (by omega) (xd_PI_c (xd_comp (l3 := 1) h h' (Or.inr ⟨Or.inr rfl, rfl⟩)) cv)))
    · exact br_f (by decide) (nm_r hm (ih _ _ _ _ _ _ (by omega) (xd_PI_c (xd_comp (l3 := 1) h h' (Or.inr ⟨Or.inl rfl, rfl⟩)) cv)))
theorem xe_f31 (post : SX → Prop) {L : Nat} {o : Nat → Nat} {A : Nat → Nat → Prop} (hl : xl = nI L) (hL : L ≤ 16) (hop : ∀ p, p < 16 → xop p = nI (o p) ∧ o p ≤ 14) (hA : ∀ i y, A i y → i < 256 ∧ y < 16) (hAL : ∀ i y, A i y → i < L * 16)
    (H : ∀ al ii nx aw tp, tl_BG (ta_SR L o xar) A (xd_S al) ∧ tl_PF (ta_SR L o xar) (xd_S al) → post (xl, xr, xe, xop, xar, xlo, xhi, xhv, xfr, xcm, al, xfi, ii, nx, aw, tp)) :
    ∀ d k lost al ii nx aw tp, k + d = 4097 → xd_OI (ta_SR L o xar) A k lost al → wX_findEndless_31 post (d + 1) lost (nI k) xl xr xe xop xar xlo xhi xhv xfr xcm al xfi ii nx aw tp := by
  intro d
  induction d with
  | zero =>
    intro k lost al ii nx aw tp hk h
    obtain rfl : k = 4097 := by omega
    exact br_t (nI_lt (a := 4096) (by omega) (by decide)) (H _ _ _ _ _ (xd_OI_e h (Or.inl (by decide))))
  | succ d ih =>
    intro k lost al ii nx aw tp hk h
    rw [wX_findEndless_31]
    refine br_f (nI_nlt (a := 4096) (by omega) (by decide)) (br_c (fun e => H _ _ _ _ _ (xd_OI_e h (Or.inr e))) (fun e => ?_))
    rcases h.2 with ⟨q, _⟩ | ⟨_, hN⟩
    · exact absurd q e
    · subst hl
      refine nm_e ⟨L + 1, xe_f51 post _ (al0 := al) rfl hL hop hA (fun lost' al' ii' nx' aw' tp' h' => ?_) L 0 al ii nx aw tp (Nat.le_refl _) (xd_start h.1 fun i y z w => by have := hAL i y w; omega)⟩
      exact ih (k + 1) _ _ _ _ _ _ (by omega) (xd_round hN h' fun _ _ => trivial)
theorem xe_f2 (post : SX → Prop) {L : Nat} {o : Nat → Nat} {A : Nat → Nat → Prop} (hl : xl = nI L) (hL : L ≤ 16) (hop : ∀ p, p < 16 → xop p = nI (o p) ∧ o p ≤ 14) (hA : ∀ i y, A i y → i < 256 ∧ y < 16) (hAL : ∀ i y, A i y → i < L * 16)
    (hv : ∀ i, i < 256 → ∀ y, tq_B (xhv i) y ↔ A i y)
    (H : ∀ al ii nx aw tp, tl_BG (ta_SR L o xar) A (xd_S al) ∧ tl_PF (ta_SR L o xar) (xd_S al) → post (xl, xr, xe, xop, xar, xlo, xhi, xhv, xfr, xcm, al, xfi, ii, nx, aw, tp)) :
    ∀ d i al, i + d = 256 → (∀ a, a < i → al a = xhv a) → wX_findEndless_2 post xl xr xe (d + 1) (nI i) xop xar xlo xhi xhv xfr xcm al xfi xin xnx xaw xtp := by
  intro d
  induction d with
  | zero =>
    intro i al hi h
    obtain rfl : i = 256 := by omega
    refine br_t (nI_le (a := 256) (b := 256) (Nat.le_refl _) (by decide)) ⟨4098, xe_f31 post hl hL hop hA hAL H 4097 0 1 al xin xnx xaw xtp rfl (xd_OI_0 (fun i y z => (hA i y z).1) fun i hi y => ?_)⟩
    rw [h i hi]; exact hv i hi y
  | succ d ih =>
    intro i al hi h
    have hb : vp_in (nI i) 256 := vp_in_nI (by omega) (by decide)
    rw [wX_findEndless_2]
    dsimp only
    rw [nI_clamp (n := i) (by omega)]
    refine br_f (nI_ge (b := 256) (by omega) (by decide)) ⟨hb, hb, nm_e (nm_r (nI_1 i) (ih (i + 1) _ (by omega) (lt_s (fun a ha => ?_) pk_us)))⟩
    rw [pk_un (by omega)]; exact h a ha
theorem xe_find (post : SX → Prop) {L : Nat} {o : Nat → Nat} {A : Nat → Nat → Prop} (hl : xl = nI L) (hL : L ≤ 16) (hop : ∀ p, p < 16 → xop p = nI (o p) ∧ o p ≤ 14) (hA : ∀ i y, A i y → i < 256 ∧ y < 16) (hAL : ∀ i y, A i y → i < L * 16)
    (hv : ∀ i, i < 256 → ∀ y, tq_B (xhv i) y ↔ A i y)
    (H : ∀ al ii nx aw tp, tl_BG (ta_SR L o xar) A (xd_S al) ∧ tl_PF (ta_SR L o xar) (xd_S al) → post (xl, xr, xe, xop, xar, xlo, xhi, xhv, xfr, xcm, al, xfi, ii, nx, aw, tp)) : wpX_findEndless post (xl, xr, xe, xop, xar, xlo, xhi, xhv, xfr, xcm, xal, xfi, xin, xnx, xaw, xtp) :=
  ⟨257, xe_f2 post hl hL hop hA hAL hv H 256 0 xal rfl lt_0⟩
end
end
section
/-! the levels of a program, the plain part -/
def xf_I (L a b c d i y : Nat) : Prop := 0 < L ∧ a ≤ i ∧ i ≤ b ∧ c ≤ y ∧ y ≤ d
section
variable {L : Nat} {o : Nat → Nat} {c : Nat → Int32} {I : Nat → Nat → Prop}
theorem xf_dom (hI : ∀ i y, I i y → i < L * 16 ∧ y < 16) (k i y : Nat) (h : tl_F (ta_SR L o c) I k i y) : i < L * 16 ∧ y < 16 :=
  tl_dom (D := fun i y => i < L * 16 ∧ y < 16) hI (fun _ _ _ _ r d => ta_SR_lt r d.2) k i y h
theorem xf_domR (hI : ∀ i y, I i y → i < L * 16 ∧ y < 16) (i y : Nat) (h : tl_R (ta_SR L o c) I i y) : i < L * 16 ∧ y < 16 :=
  h.elim fun k h => xf_dom hI k i y h
/-- the state at the head of level kk + 1 -/
def xf_V (L : Nat) (o : Nat → Nat) (c : Nat → Int32) (I : Nat → Nat → Prop) (kk : Nat) (hv fr fi : Nat → Int32) (e s : Int32) : Prop :=
  (∀ i, i < 256 → ∀ y, tq_B (hv i) y ↔ tl_H (ta_SR L o c) I (kk + 1) i y) ∧ (∀ i, i < 256 → ∀ y, tq_B (fr i) y ↔ tl_F (ta_SR L o c) I kk i y) ∧
  (∀ p, p < 16 → tl_1 (ta_SR L o c) I (kk + 1) p (fi p)) ∧ (e = 0 ∨ e = 1) ∧ (e = 1 ↔ ∃ i y, tl_H (ta_SR L o c) I kk i y ∧ ta_EN L o c i y) ∧
  ((s = 0 ∧ ∀ i y, ¬ tl_F (ta_SR L o c) I kk i y) ∨ (s = 1 ∧ ∃ i y, tl_F (ta_SR L o c) I kk i y))
/-- what is known when all is worked out -/
def xf_K (L : Nat) (o : Nat → Nat) (c : Nat → Int32) (I : Nat → Nat → Prop) (hv al fi : Nat → Int32) (e : Int32) : Prop :=
  (∀ i, i < 256 → ∀ y, tq_B (hv i) y ↔ tl_R (ta_SR L o c) I i y) ∧ (∀ p, p < 16 → tl_1R (ta_SR L o c) I p (fi p)) ∧ (e = 0 ∨ e = 1) ∧
  (e = 1 ↔ ∃ i y, tl_R (ta_SR L o c) I i y ∧ ta_EN L o c i y) ∧ tl_BG (ta_SR L o c) (tl_R (ta_SR L o c) I) (xd_S al) ∧ tl_PF (ta_SR L o c) (xd_S al)
theorem xf_s01 (hL : L ≤ 16) (hI : ∀ i y, I i y → i < L * 16 ∧ y < 16) {k : Nat} {fr : Nat → Int32} (h : ∀ i, i < 256 → ∀ y, tq_B (fr i) y ↔ tl_F (ta_SR L o c) I k i y) {s : Int32}
    (hs : (s = 0 ∧ ∀ i, i < 256 → fr i = 0) ∨ (s = 1 ∧ ∃ i, i < 256 ∧ ¬ fr i = 0)) : (s = 0 ∧ ∀ i y, ¬ tl_F (ta_SR L o c) I k i y) ∨ (s = 1 ∧ ∃ i y, tl_F (ta_SR L o c) I k i y) := by
  rcases hs with ⟨e, q⟩ | ⟨e, i, hi, q⟩
  · refine Or.inl ⟨e, fun i y z => ?_⟩
    have hi : i < 256 := by have := (xf_dom hI k i y z).1; omega
    exact absurd ((h i hi y).mpr z) (by rw [q i hi]; exact tq_0 y)
  · obtain ⟨y, q⟩ := tq_nz.mp q
    exact Or.inr ⟨e, i, y, (h i hi y).mp q⟩
theorem xf_P (hL : L ≤ 16) (hI : ∀ i y, I i y → i < L * 16 ∧ y < 16) {k : Nat} {fr : Nat → Int32} (h : ∀ i, i < 256 → ∀ y, tq_B (fr i) y ↔ tl_F (ta_SR L o c) I k i y) (p : Nat) :
    (∃ i, i < 256 ∧ i / 16 = p ∧ ¬ fr i = 0) ↔ tl_P (ta_SR L o c) I k p := by
  constructor
  · rintro ⟨i, hi, e, q⟩
    obtain ⟨y, q⟩ := tq_nz.mp q
    exact ⟨i, y, e, (h i hi y).mp q⟩
  · rintro ⟨i, y, e, z⟩
    have hi : i < 256 := by have := (xf_dom hI k i y z).1; omega
    exact ⟨i, hi, e, tq_nz.mpr ⟨y, (h i hi y).mpr z⟩⟩
theorem xf_V0 (hL : L ≤ 16) (hI : ∀ i y, I i y → i < L * 16 ∧ y < 16) {hv fr fi fi0 : Nat → Int32} {s : Int32} (h1 : ∀ i, i < 256 → ∀ y, tq_B (fr i) y ↔ I i y) (h2 : ∀ i, i < 256 → ∀ y, tq_B (hv i) y ↔ I i y)
    (hs : (s = 0 ∧ ∀ i, i < 256 → fr i = 0) ∨ (s = 1 ∧ ∃ i, i < 256 ∧ ¬ fr i = 0)) (h5 : ∀ p, p < 16 → fi0 p = -5) (hF : xc_F (nI 0) (fun p => ∃ i, i < 256 ∧ i / 16 = p ∧ ¬ fr i = 0) fi0 fi) : xf_V L o c I 0 hv fr fi 0 s := by
  refine ⟨fun i hi y => ?_, h1, ?_, Or.inl rfl, ⟨fun z => absurd z (by decide), fun ⟨i, y, z, _⟩ => absurd z (tl_H0 i y)⟩, xf_s01 hL hI (k := 0) h1 hs⟩
  · rw [h2 i hi, tl_Hs]; exact ⟨Or.inr, fun z => z.elim (fun z => absurd z (tl_H0 i y)) id⟩
  · exact xc_F_l (by decide) (xc_F_c hF fun p _ => xf_P hL hI (k := 0) h1 p) fun p hp => Or.inl ⟨h5 p hp, fun m hm => by omega⟩
theorem xf_Vs (hL : L ≤ 16) (hI : ∀ i y, I i y → i < L * 16 ∧ y < 16) {kk : Nat} (hk : kk + 1 < 2 ^ 31) {hv fr fi hv' fr' fi' : Nat → Int32} {e s e' s' : Int32} (h : xf_V L o c I kk hv fr fi e s)
    (h1 : ∀ j, j < 256 → ∀ z, tq_B (fr' j) z ↔ (∃ i y, tl_F (ta_SR L o c) I kk i y ∧ ta_SR L o c i y j z) ∧ ¬ tq_B (hv j) z) (h2 : ∀ i, i < 256 → ∀ y, tq_B (hv' i) y ↔ tq_B (hv i) y ∨ tq_B (fr' i) y)
    (hs : (s' = 0 ∧ ∀ i, i < 256 → fr' i = 0) ∨ (s' = 1 ∧ ∃ i, i < 256 ∧ ¬ fr' i = 0)) (hF : xc_F (nI (kk + 1)) (fun p => ∃ i, i < 256 ∧ i / 16 = p ∧ ¬ fr' i = 0) fi fi')
    (he : e' = 0 ∨ e' = 1) (hE : e' = 1 ↔ e = 1 ∨ ∃ i y, tl_F (ta_SR L o c) I kk i y ∧ ta_EN L o c i y) : xf_V L o c I (kk + 1) hv' fr' fi' e' s' := by
  obtain ⟨g1, g2, g3, g4, g5, g6⟩ := h
  have f1 : ∀ i, i < 256 → ∀ y, tq_B (fr' i) y ↔ tl_F (ta_SR L o c) I (kk + 1) i y := fun i hi y => by
    rw [h1 i hi, tl_Fs, g1 i hi]
  refine ⟨fun i hi y => ?_, f1, ?_, he, ?_, xf_s01 hL hI f1 hs⟩
  · rw [h2 i hi, g1 i hi, f1 i hi, tl_Hs (kk + 1)]
  · exact xc_F_l hk (xc_F_c hF fun p _ => xf_P hL hI f1 p) g3
  · rw [hE, g5]
    constructor
    · rintro (⟨i, y, q1, q2⟩ | ⟨i, y, q1, q2⟩)
      · exact ⟨i, y, (tl_Hs kk i y).mpr (Or.inl q1), q2⟩
      · exact ⟨i, y, (tl_Hs kk i y).mpr (Or.inr q1), q2⟩
    · rintro ⟨i, y, q1, q2⟩
      rcases (tl_Hs kk i y).mp q1 with q | q
      · exact Or.inl ⟨i, y, q, q2⟩
      · exact Or.inr ⟨i, y, q, q2⟩
theorem xf_VK {kk : Nat} {hv fr fi : Nat → Int32} {e s : Int32} (h : xf_V L o c I kk hv fr fi e s) (hz : ∀ i y, ¬ tl_F (ta_SR L o c) I kk i y) :
    (∀ i, i < 256 → ∀ y, tq_B (hv i) y ↔ tl_R (ta_SR L o c) I i y) ∧ ∀ al, tl_BG (ta_SR L o c) (tl_R (ta_SR L o c) I) (xd_S al) ∧ tl_PF (ta_SR L o c) (xd_S al) → xf_K L o c I hv al fi e := by
  obtain ⟨g1, g2, g3, g4, g5, g6⟩ := h
  have hz1 : ∀ i y, ¬ tl_F (ta_SR L o c) I (kk + 1) i y := fun i y => tl_end hz 1 i y
  have r1 : ∀ i, i < 256 → ∀ y, tq_B (hv i) y ↔ tl_R (ta_SR L o c) I i y := fun i hi y => by rw [g1 i hi, tl_RH hz1]
  refine ⟨r1, fun al ha => ⟨r1, fun p hp => tl_1R_of hz1 (g3 p hp), g4, ?_, ha.1, ha.2⟩⟩
  rw [g5]
  constructor
  · rintro ⟨i, y, q1, q2⟩; exact ⟨i, y, (tl_RH hz i y).mp q1, q2⟩
  · rintro ⟨i, y, q1, q2⟩; exact ⟨i, y, (tl_RH hz i y).mpr q1, q2⟩
theorem xf_I_dom {a b c' d : Nat} (hb : b ≤ 15) (hd : d ≤ 15) (i y : Nat) (h : xf_I L a b c' d i y) : i < L * 16 ∧ y < 16 := by
  unfold xf_I at h; omega
end
end
section
/-! the component's prepare -/
section
variable {xl xr xe : Int32} {xop xar xlo xhi xhv xfr xcm xal xfi xin xnx xaw xtp : Nat → Int32}
theorem xg_145 (post : SX → Prop) {L : Nat} {o : Nat → Nat} {I : Nat → Nat → Prop} (hl : xl = nI L) (hL : L ≤ 16) (hop : ∀ p, p < 16 → xop p = nI (o p) ∧ o p ≤ 14) (hI : ∀ i y, I i y → i < L * 16 ∧ y < 16)
    (H : ∀ e hv fr cm al fi ii nx aw tp, xf_K L o xar I hv al fi e → post (xl, xr, e, xop, xar, xlo, xhi, hv, fr, cm, al, fi, ii, nx, aw, tp)) :
    ∀ d kk s e hv fr cm al fi ii nx aw tp, kk + d = 4096 → xf_V L o xar I kk hv fr fi e s → wX_prepare_145 post (d + 1) s (nI (kk + 1)) xl xr e xop xar xlo xhi hv fr cm al fi ii nx aw tp := by
  have fin : ∀ kk s e hv fr cm al fi ii nx aw tp, xf_V L o xar I kk hv fr fi e s → (∀ i y, ¬ tl_F (ta_SR L o xar) I kk i y) → wX_prepare_172 post xl xr e xop xar xlo xhi hv fr cm al fi ii nx aw tp := by
    intro kk s e hv fr cm al fi ii nx aw tp hV hz
    obtain ⟨k1, k2⟩ := xf_VK hV hz
    unfold wX_prepare_172
    refine xe_find _ hl hL hop (fun i y z => ?_) (fun i y z => (xf_domR hI i y z).1) k1 fun al' ii' nx' aw' tp' h => H _ _ _ _ _ _ _ _ _ _ (k2 al' h)
    have := xf_domR hI i y z
    omega
  intro d
  induction d with
  | zero =>
    intro kk s e hv fr cm al fi ii nx aw tp hk hV
    obtain rfl : kk = 4096 := by omega
    exact br_t (nI_lt (a := 4096) (b := 4097) (by decide) (by decide)) (fin _ _ _ _ _ _ _ _ _ _ _ _ hV fun i y => tl_4096 (fun k i y z => by have := xf_dom hI k i y z; omega) (Nat.le_refl _) i y)
  | succ d ih =>
    intro kk s e hv fr cm al fi ii nx aw tp hk hV
    rw [wX_prepare_145]
    refine br_f (nI_nlt (a := 4096) (by omega) (by decide)) (br_c (fun q => fin _ _ _ _ _ _ _ _ _ _ _ _ hV ?_) (fun q => ?_))
    · rcases hV.2.2.2.2.2 with ⟨_, z⟩ | ⟨z, _⟩
      · exact z
      · rw [z] at q; exact absurd q (by decide)
    · have hfr := hV.2.1
      refine xc_pass _ (E := ∃ i y, tl_H (ta_SR L o xar) I kk i y ∧ ta_EN L o xar i y) hl hL hop (fun i hi y z => (xf_dom hI kk i y ((hfr i hi y).mp z)).2) hV.2.2.2.1 hV.2.2.2.2.1 fun e' cm' ii' nx' aw' tp' hE hC => ?_
      refine xc_settle _ (lv := nI (kk + 1)) (tl_m5 (by omega)) fun s' hv' fr' fi' h1 hs hF => ?_
      have conv : ∀ (P : Nat → Nat → Prop), (∃ i y, i < L * 16 ∧ tq_B (fr i) y ∧ P i y) ↔ ∃ i y, tl_F (ta_SR L o xar) I kk i y ∧ P i y := fun P => by
        constructor
        · rintro ⟨i, y, hi, q1, q2⟩
          exact ⟨i, y, (hfr i (by omega) y).mp q1, q2⟩
        · rintro ⟨i, y, q1, q2⟩
          have := xf_dom hI kk i y q1
          exact ⟨i, y, this.1, (hfr i (by omega) y).mpr q1, q2⟩
      refine nm_r (nI_1 (kk + 1)) (ih (kk + 1) _ _ _ _ _ _ _ _ _ _ _ (by omega) (xf_Vs hL hI (by omega) hV (fun j hj z => ?_) (fun i hi y => ?_) hs hF hE.1 ?_))
      · rw [(h1 j hj).1, tq_andn, hC j hj, conv (fun i y => ta_SR L o xar i y j z)]
      · rw [(h1 i hi).2, tq_or]
      · rw [hE.2, conv (fun i y => ta_EN L o xar i y), hV.2.2.2.2.1]
theorem xg_137 (post : SX → Prop) {L : Nat} {o : Nat → Nat} {I : Nat → Nat → Prop} (hl : xl = nI L) (hL : L ≤ 16) (hop : ∀ p, p < 16 → xop p = nI (o p) ∧ o p ≤ 14) (hI : ∀ i y, I i y → i < L * 16 ∧ y < 16)
    (H : ∀ e hv fr cm al fi ii nx aw tp, xf_K L o xar I hv al fi e → post (xl, xr, e, xop, xar, xlo, xhi, hv, fr, cm, al, fi, ii, nx, aw, tp))
    (he : xe = 0) (h0 : ∀ i, i < 256 → xhv i = 0) (h5 : ∀ p, p < 16 → xfi p = -5) (hc : ∀ i, i < 256 → ∀ y, tq_B (xcm i) y ↔ I i y) : wX_prepare_137 post xl xr xe xop xar xlo xhi xhv xfr xcm xal xfi xin xnx xaw xtp := by
  subst he
  unfold wX_prepare_137
  refine xc_settle _ (lv := 0) (by decide) fun s hv fr fi h1 hs hF => ⟨4097, ?_⟩
  have f1 : ∀ i, i < 256 → ∀ y, tq_B (fr i) y ↔ I i y := fun i hi y => by
    rw [(h1 i hi).1, tq_andn, hc i hi, h0 i hi]; exact ⟨fun z => z.1, fun z => ⟨z, tq_0 y⟩⟩
  refine xg_145 post hl hL hop hI H 4096 0 s 0 hv fr xcm xal fi xin xnx xaw xtp rfl (xf_V0 hL hI f1 (fun i hi y => ?_) hs h5 hF)
  rw [(h1 i hi).2, tq_or, f1 i hi, h0 i hi]
  exact ⟨fun z => z.elim (fun z => absurd z (tq_0 y)) id, Or.inr⟩
theorem xg_107 (post : SX → Prop) {L a b c d : Nat} {o : Nat → Nat} {row : Int32} (hl : xl = nI L) (hL : L ≤ 16) (hop : ∀ p, p < 16 → xop p = nI (o p) ∧ o p ≤ 14) (hb : b ≤ 15) (hd : d ≤ 15) (hhi : xhi 0 = nI b) (hab : a ≤ b)
    (H : ∀ e hv fr cm al fi ii nx aw tp, xf_K L o xar (xf_I L a b c d) hv al fi e → post (xl, xr, e, xop, xar, xlo, xhi, hv, fr, cm, al, fi, ii, nx, aw, tp))
    (he : xe = 0) (h0 : ∀ i, i < 256 → xhv i = 0) (h5 : ∀ p, p < 16 → xfi p = -5) (hrow : ∀ y, tq_B row y ↔ c ≤ y ∧ y ≤ d) :
    ∀ n x cm, x + n = b + 1 → a ≤ x → (∀ i, i < 256 → ∀ y, tq_B (cm i) y ↔ 0 < L ∧ a ≤ i ∧ i < x ∧ c ≤ y ∧ y ≤ d) → wX_prepare_107 post row xl xr xe (n + 1) (nI x) xop xar xlo xhi xhv xfr cm xal xfi xin xnx xaw xtp := by
  intro n
  induction n with
  | zero =>
    intro x cm hx ha h
    obtain rfl : x = b + 1 := by omega
    rw [wX_prepare_107]
    dsimp only
    rw [hhi]
    refine br_t (nI_lt (by omega) (by omega)) (xg_137 post hl hL hop (xf_I_dom hb hd) H he h0 h5 fun i hi y => ?_)
    rw [h i hi]; unfold xf_I; omega
  | succ n ih =>
    intro x cm hx ha h
    rw [wX_prepare_107]
    dsimp only
    rw [hhi, nI_clamp (n := x) (by omega)]
    refine br_f (nI_nlt (by omega) (by omega)) ?_
    rw [hl]
    refine pk_le L 0 (fun z => ?_) (fun z => ⟨vp_in_nI (by omega) (by decide), nm_e (nm_r (nI_1 x) ?_)⟩) rfl rfl (by omega) (by decide)
    · rw [← hl]
      refine xg_137 post hl hL hop (xf_I_dom hb hd) H he h0 h5 fun i hi y => ?_
      rw [h i hi]; unfold xf_I; omega
    · rw [← hl]
      refine ih (x + 1) _ (by omega) (by omega) fun i hi y => ?_
      by_cases e : i = x
      · subst e; rw [pk_us, hrow]; omega
      · rw [pk_un e, h i hi]; omega
theorem xg_78 (post : SX → Prop) {L a b c d : Nat} {o : Nat → Nat} (hl : xl = nI L) (hL : L ≤ 16) (hop : ∀ p, p < 16 → xop p = nI (o p) ∧ o p ≤ 14) (hb : b ≤ 15) (hd : d ≤ 15) (hlo : xlo 0 = nI a) (hhi : xhi 0 = nI b) (hhi1 : xhi 1 = nI d) (hab : a ≤ b) (hcd : c ≤ d)
    (H : ∀ e hv fr cm al fi ii nx aw tp, xf_K L o xar (xf_I L a b c d) hv al fi e → post (xl, xr, e, xop, xar, xlo, xhi, hv, fr, cm, al, fi, ii, nx, aw, tp))
    (he : xe = 0) (h0 : ∀ i, i < 256 → xhv i = 0) (hc0 : ∀ i, i < 256 → xcm i = 0) (h5 : ∀ p, p < 16 → xfi p = -5) :
    ∀ n y row, y + n = d + 1 → c ≤ y → (∀ z, tq_B row z ↔ c ≤ z ∧ z < y) → wX_prepare_78 post xl xr xe xop xar xlo xhi xhv xfr xcm xal xfi xin xnx xaw xtp (n + 1) row (nI y) := by
  intro n
  induction n with
  | zero =>
    intro y row hy hc h
    obtain rfl : y = d + 1 := by omega
    rw [wX_prepare_78]
    dsimp only
    rw [hhi1]
    refine br_t (nI_lt (by omega) (by omega)) (nm_r hlo ⟨b + 1 - a + 1, xg_107 post hl hL hop hb hd hhi hab H he h0 h5 (fun z => ?_) (b + 1 - a) a xcm (by omega) (Nat.le_refl _) fun i hi z => ?_⟩)
    · rw [h]; omega
    · rw [hc0 i hi]; exact ⟨fun q => absurd q (tq_0 z), fun q => by omega⟩
  | succ n ih =>
    intro y row hy hc h
    rw [wX_prepare_78]
    dsimp only
    rw [hhi1]
    refine br_f (nI_nlt (by omega) (by omega)) (nm_e (nm_r (nI_1 y) (ih (y + 1) _ (by omega) (by omega) fun z => ?_)))
    rw [tq_or, tq_one (by omega), h]; omega
theorem xg_49 (post : SX → Prop) {L a b c d : Nat} {o : Nat → Nat} (hl : xl = nI L) (hL : L ≤ 16) (hop : ∀ p, p < 16 → xop p = nI (o p) ∧ o p ≤ 14) (hb : b ≤ 15) (hd : d ≤ 15) (hlo : xlo 0 = nI a) (hhi : xhi 0 = nI b) (hlo1 : xlo 1 = nI c) (hhi1 : xhi 1 = nI d) (hab : a ≤ b) (hcd : c ≤ d)
    (H : ∀ e hv fr cm al fi ii nx aw tp, xf_K L o xar (xf_I L a b c d) hv al fi e → post (xl, xr, e, xop, xar, xlo, xhi, hv, fr, cm, al, fi, ii, nx, aw, tp))
    (he : xe = 0) (h0 : ∀ i, i < 256 → xhv i = 0) (hc0 : ∀ i, i < 256 → xcm i = 0) :
    ∀ n p fi, p + n = 16 → (∀ q, q < p → fi q = -5) → wX_prepare_49 post xl xr xe (n + 1) (nI p) xop xar xlo xhi xhv xfr xcm xal fi xin xnx xaw xtp := by
  intro n
  induction n with
  | zero =>
    intro p fi hp h
    obtain rfl : p = 16 := by omega
    refine br_t (nI_le (a := 16) (b := 16) (Nat.le_refl _) (by decide)) (nm_r hlo1 ⟨d + 1 - c + 1, xg_78 post hl hL hop hb hd hlo hhi hhi1 hab hcd H he h0 hc0 h (d + 1 - c) c 0 (by omega) (Nat.le_refl _) fun z => ?_⟩)
    exact ⟨fun q => absurd q (tq_0 z), fun q => by omega⟩
  | succ n ih =>
    intro p fi hp h
    rw [wX_prepare_49]
    dsimp only
    rw [nI_clamp (n := p) (by omega)]
    refine br_f (nI_ge (b := 16) (by omega) (by decide)) ⟨vp_in_nI (by omega) (by decide), nm_e (nm_r (nI_1 p) (ih (p + 1) _ (by omega) (lt_s (fun q hq => ?_) pk_us)))⟩
    rw [pk_un (by omega)]; exact h q hq
theorem xg_20 (post : SX → Prop) {L a b c d : Nat} {o : Nat → Nat} (hl : xl = nI L) (hL : L ≤ 16) (hop : ∀ p, p < 16 → xop p = nI (o p) ∧ o p ≤ 14) (hb : b ≤ 15) (hd : d ≤ 15) (hlo : xlo 0 = nI a) (hhi : xhi 0 = nI b) (hlo1 : xlo 1 = nI c) (hhi1 : xhi 1 = nI d) (hab : a ≤ b) (hcd : c ≤ d)
    (H : ∀ e hv fr cm al fi ii nx aw tp, xf_K L o xar (xf_I L a b c d) hv al fi e → post (xl, xr, e, xop, xar, xlo, xhi, hv, fr, cm, al, fi, ii, nx, aw, tp))
    (he : xe = 0) :
    ∀ n i hv cm, i + n = 256 → (∀ q, q < i → hv q = 0 ∧ cm q = 0) → wX_prepare_20 post xl xr xe (n + 1) (nI i) xop xar xlo xhi hv xfr cm xal xfi xin xnx xaw xtp := by
  intro n
  induction n with
  | zero =>
    intro i hv cm hi h
    obtain rfl : i = 256 := by omega
    exact br_t (nI_le (a := 256) (b := 256) (Nat.le_refl _) (by decide)) ⟨17, xg_49 post hl hL hop hb hd hlo hhi hlo1 hhi1 hab hcd H he (fun i hi => (h i hi).1) (fun i hi => (h i hi).2) 16 0 xfi rfl lt_0⟩
  | succ n ih =>
    intro i hv cm hi h
    have hv' : vp_in (nI i) 256 := vp_in_nI (by omega) (by decide)
    rw [wX_prepare_20]
    dsimp only
    rw [nI_clamp (n := i) (by omega)]
    refine br_f (nI_ge (b := 256) (by omega) (by decide)) ⟨hv', nm_e ⟨hv', nm_e (nm_r (nI_1 i) (ih (i + 1) _ _ (by omega) (lt_s (fun q hq => ?_) ⟨pk_us, pk_us⟩)))⟩⟩
    rw [pk_un (by omega), pk_un (by omega)]; exact h q hq
/-- prepare, from a state that is ready and known or not ready -/
theorem xg_prep (post : SX → Prop) {L a b c d : Nat} {o : Nat → Nat} (hl : xl = nI L) (hL : L ≤ 16) (hop : ∀ p, p < 16 → xop p = nI (o p) ∧ o p ≤ 14) (hb : b ≤ 15) (hd : d ≤ 15) (hlo : xlo 0 = nI a) (hhi : xhi 0 = nI b) (hlo1 : xlo 1 = nI c) (hhi1 : xhi 1 = nI d) (hab : a ≤ b) (hcd : c ≤ d)
    (hr : xr = 0 ∨ (xr = 1 ∧ xf_K L o xar (xf_I L a b c d) xhv xal xfi xe))
    (H : ∀ e hv fr cm al fi ii nx aw tp, xf_K L o xar (xf_I L a b c d) hv al fi e → post (xl, 1, e, xop, xar, xlo, xhi, hv, fr, cm, al, fi, ii, nx, aw, tp)) : wpX_prepare post (xl, xr, xe, xop, xar, xlo, xhi, xhv, xfr, xcm, xal, xfi, xin, xnx, xaw, xtp) := by
  rcases hr with rfl | ⟨rfl, hK⟩
  · exact br_t rfl ⟨257, xg_20 post hl hL hop hb hd hlo hhi hlo1 hhi1 hab hcd H rfl 256 0 xhv xcm rfl lt_0⟩
  · exact br_f (by decide) (H _ _ _ _ _ _ _ _ _ _ hK)
end
end
section
/-! the reference's after and goOn -/
def ya_z (k : Nat) (c : Int32) (x y v : Nat) : Nat := if k = 9 then v else tq_m (ta_gy k c x y)
def ya_SV (L k : Nat) (c : Int32) (p x y v j z : Nat) : Prop := k ≠ 14 ∧ ¬ ta_TR k c x y ∧ z = ya_z k c x y v ∧
  ((¬ ta_AW k x y ∧ p + 1 < L ∧ j = (p + 1) * 16 + tq_m (ta_gx k c x y)) ∨ (ta_AW k x y ∧ ∃ t, t < L ∧ c = nI t ∧ j = t * 16 + x))
def ya_EN (L k : Nat) (c : Int32) (p x y : Nat) : Prop := k = 14 ∨ (¬ ta_TR k c x y ∧ ¬ ta_AW k x y ∧ ¬ p + 1 < L) ∨ (ta_AW k x y ∧ ¬ ∃ t, t < L ∧ c = nI t)
theorem ya_aw_tr {k : Nat} {c : Int32} {x y : Nat} (h : ta_AW k x y) : k ≠ 14 ∧ ¬ ta_TR k c x y := by
  have e : 10 ≤ k ∧ k ≤ 13 := by unfold ta_AW at h; omega
  exact ⟨by omega, ta_tr_n (by omega) (by omega) c x y⟩
theorem ya_tr_en {L k : Nat} {c : Int32} {p x y : Nat} (h : ta_TR k c x y) : ¬ ya_EN L k c p x y := by
  rintro (q | ⟨q, _⟩ | ⟨q, _⟩)
  · exact ta_tr_n (by omega) (by omega) c x y h
  · exact q h
  · exact (ya_aw_tr q).2 h
theorem ya_tr_sv {L k : Nat} {c : Int32} {p x y v j z : Nat} (h : ta_TR k c x y) : ¬ ya_SV L k c p x y v j z := fun q => q.2.1 h
theorem ya_en_sv {L k : Nat} {c : Int32} {p x y v j z : Nat} (h : ya_EN L k c p x y) : ¬ ya_SV L k c p x y v j z := by
  rintro ⟨q1, q2, _, q4⟩
  rcases h with h | ⟨_, h2, h3⟩ | ⟨h2, h3⟩
  · exact q1 h
  · rcases q4 with ⟨_, w, _⟩ | ⟨w, _⟩
    · exact h3 w
    · exact h2 w
  · rcases q4 with ⟨w, _⟩ | ⟨_, t, ht, e, _⟩
    · exact w h2
    · exact h3 ⟨t, ht, e⟩
theorem ya_sv_u {L k : Nat} {c : Int32} {p x y v j z j' z' : Nat} (hL : L ≤ 16) (h : ya_SV L k c p x y v j z) (h' : ya_SV L k c p x y v j' z') : j' = j ∧ z' = z := by
  obtain ⟨_, _, e, q⟩ := h
  obtain ⟨_, _, e', q'⟩ := h'
  refine ⟨?_, by rw [e, e']⟩
  rcases q with ⟨a, _, b⟩ | ⟨a, t, ht, b, d⟩ <;> rcases q' with ⟨a', _, b'⟩ | ⟨a', t', ht', b', d'⟩
  · rw [b, b']
  · exact absurd a' a
  · exact absurd a a'
  · rw [b] at b'
    have := (nI_eq (by omega) (by omega)).mp b'
    rw [d, d', this]
theorem ya_SR {L : Nat} {o : Nat → Nat} {c : Nat → Int32} {p x y : Nat} (hx : x < 16) (hy : y < 16) (j z : Nat) :
    (∃ v, v < 16 ∧ (v = 0 ∨ o p = 9) ∧ ya_SV L (o p) (c p) p x y v j z) ↔ ta_SR L o c (p * 16 + x) y j z := by
  rw [tn_SR hx]
  constructor
  · rintro ⟨v, hv, h0, h1, h2, h3, h4⟩
    rcases h4 with ⟨q1, q2, q3⟩ | ⟨q1, t, ht, q2, q3⟩
    · have hm := tq_m_lt (ta_gx (o p) (c p) x y)
      refine Or.inl ⟨q2, by omega, h1, h2, q1, by omega, ?_⟩
      unfold ya_z at h3
      by_cases e : o p = 9
      · rw [if_pos e] at h3; exact Or.inl ⟨e, by omega⟩
      · rw [if_neg e] at h3; exact Or.inr ⟨e, h3⟩
    · refine Or.inr ⟨q1, ?_, by omega, by rw [show j / 16 = t by omega]; exact q2, by omega⟩
      have e : 10 ≤ o p ∧ o p ≤ 13 := by unfold ta_AW at q1; omega
      unfold ya_z ta_gy at h3
      rw [if_neg (by omega), if_neg (by omega), if_neg (by omega), tq_m_nI hy] at h3
      exact h3
  · rintro (⟨q1, q2, h1, h2, h3, h4, h5⟩ | ⟨q1, q2, q3, q4, q5⟩)
    · rcases h5 with ⟨e, hz⟩ | ⟨e, hz⟩
      · exact ⟨z, hz, Or.inr e, h1, h2, by unfold ya_z; rw [if_pos e], Or.inl ⟨h3, q1, by omega⟩⟩
      · exact ⟨0, by decide, Or.inl rfl, h1, h2, by unfold ya_z; rw [if_neg e]; exact hz, Or.inl ⟨h3, q1, by omega⟩⟩
    · have e : 10 ≤ o p ∧ o p ≤ 13 := by unfold ta_AW at q1; omega
      refine ⟨0, by decide, Or.inl rfl, (ya_aw_tr (c := c p) q1).1, (ya_aw_tr q1).2, ?_, Or.inr ⟨q1, j / 16, q3, q4, by omega⟩⟩
      unfold ya_z ta_gy
      rw [if_neg (by omega), if_neg (by omega), if_neg (by omega), tq_m_nI hy]
      exact q2
theorem ya_ENi {L : Nat} {o : Nat → Nat} {c : Nat → Int32} {p x y : Nat} (hx : x < 16) : ya_EN L (o p) (c p) p x y ↔ ta_EN L o c (p * 16 + x) y := by
  rw [tn_EN hx]
  constructor
  · rintro (h | ⟨h1, h2, h3⟩ | h)
    · exact Or.inl h
    · by_cases e14 : o p = 14
      · exact Or.inl e14
      · refine Or.inr (Or.inl ⟨h3, ?_⟩)
        by_cases e : o p = 9
        · exact ⟨_, 0, e14, h1, h2, rfl, Or.inl ⟨e, by decide⟩⟩
        · exact ⟨_, _, e14, h1, h2, rfl, Or.inr ⟨e, rfl⟩⟩
    · exact Or.inr (Or.inr h)
  · rintro (h | ⟨h1, x', z, h2, h3, h4, _⟩ | h)
    · exact Or.inl h
    · exact Or.inr (Or.inl ⟨h3, h4, h1⟩)
    · exact Or.inr (Or.inr h)
section
variable {yl yk ye : Int32} {yop ycs ylo yhi yall yla yfo yen yfi ytr : Nat → Int32}
theorem ya_bad (post : Int32 → Prop) {L : Nat} (hl : yl = nI L) (hL : L ≤ 16) (t : Int32) (h0 : ∀ k, k < L → t = nI k → post 0) (h1 : (¬ ∃ k, k < L ∧ t = nI k) → post 1) : wpY_bad post (yl, yk, ye, yop, ycs, ylo, yhi, yall, yla, yfo, yen, yfi, ytr) t := by
  subst hl
  refine br_c (fun h => h1 ?_) (fun h => ?_)
  · rintro ⟨k, hk, e⟩
    rw [e] at h
    exact nI_pos (by omega) h
  · obtain ⟨j, hj, rfl⟩ := nI_of h
    refine pk_lt j L (fun z => h0 j z rfl) (fun z => h1 ?_) rfl rfl hj (by omega)
    rintro ⟨k, hk, e⟩
    have := (nI_eq hj (by omega)).mp e
    omega
theorem ya_243 (post : Int32 → Prop) {L : Nat} (hl : yl = nI L) (hL : L ≤ 16) (t nx ny : Int32) (h0 : ∀ k, k < L → t = nI k → post (nI ((k * 16 + tq_m nx) * 16 + tq_m ny))) (h1 : (¬ ∃ k, k < L ∧ t = nI k) → post (-1)) : wY_after_243 post t nx ny yl yk ye yop ycs ylo yhi yall yla yfo yen yfi ytr := by
  unfold wY_after_243
  refine ya_bad _ hl hL t (fun k hk e => br_t rfl ?_) (fun h => br_f (by decide) (h1 h))
  have := h0 k hk e
  subst e
  rw [tq_m_and, tq_m_and, show (256 : Int32) = nI 256 from rfl, show (16 : Int32) = nI 16 from rfl, pk_mul, pk_mul, nI_add, nI_add]
  rw [show (k * 16 + tq_m nx) * 16 + tq_m ny = k * 256 + tq_m nx * 16 + tq_m ny by omega] at this
  exact this
theorem ya_after0 (post : Int32 → Prop) {p x y v k : Nat} {c : Int32} (hp : p < 16) (hx : x < 16) (hy : y < 16) (hv : v < 16) (hop : yop p = nI k) (hk : k ≤ 14) (hc : ycs p = c)
    (h1 : k = 14 → post (-1)) (h2 : ta_TR k c x y → post (-2))
    (key1 : ∀ nx ny, k ≠ 14 → ¬ ta_TR k c x y → ¬ ta_AW k x y → tq_m nx = tq_m (ta_gx k c x y) → tq_m ny = ya_z k c x y v → wY_after_243 post (nI (p + 1)) nx ny yl yk ye yop ycs ylo yhi yall yla yfo yen yfi ytr)
    (key2 : ta_AW k x y → wY_after_243 post c (nI x) (nI y) yl yk ye yop ycs ylo yhi yall yla yfo yen yfi ytr) : wpY_after post (yl, yk, ye, yop, ycs, ylo, yhi, yall, yla, yfo, yen, yfi, ytr) (nI p) (nI x) (nI y) (nI v) := by
  have hi : vp_in (nI p) 16 := vp_in_nI hp (by decide)
  refine ⟨hi, nm_r (e' := nI k) (by rw [nI_clamp (by omega)]; exact hop) ⟨hi, nm_r (e' := c) (by rw [nI_clamp (by omega)]; exact hc) (nm_r (nI_1 p) ?_)⟩⟩
  have g : k ≠ 6 → k ≠ 8 → (k < 10 ∨ 13 < k) → k ≠ 14 → ∀ nx ny, tq_m nx = tq_m (ta_gx k c x y) → tq_m ny = ya_z k c x y v → wY_after_243 post (nI (p + 1)) nx ny yl yk ye yop ycs ylo yhi yall yla yfo yen yfi ytr :=
    fun a b d e nx ny => key1 nx ny e (ta_tr_n a b c x y) (ta_aw_n d x y)
  clear hop
  obtain rfl | rfl | rfl | rfl | rfl | rfl | rfl | rfl | rfl | rfl | rfl | rfl | rfl | rfl | rfl : k = 0 ∨ k = 1 ∨ k = 2 ∨ k = 3 ∨ k = 4 ∨ k = 5 ∨ k = 6 ∨ k = 7 ∨ k = 8 ∨ k = 9 ∨ k = 10 ∨ k = 11 ∨ k = 12 ∨ k = 13 ∨ k = 14 := by omega
  · refine br_f (by decide +kernel) (br_f (by decide +kernel) (br_f (by decide +kernel) (br_t rfl ?_)))
    exact g (by decide) (by decide) (by decide) (by decide) _ _ rfl rfl
  · refine br_f (by decide +kernel) (br_f (by decide +kernel) (br_f (by decide +kernel) (br_f (by decide +kernel) (br_t rfl ?_))))
    exact g (by decide) (by decide) (by decide) (by decide) _ _ rfl rfl
  · refine br_f (by decide +kernel) (br_f (by decide +kernel) (br_f (by decide +kernel) (br_f (by decide +kernel) (br_f (by decide +kernel) (br_t rfl (nm_e ?_))))))
    exact g (by decide) (by decide) (by decide) (by decide) _ _ rfl rfl
  · refine br_f (by decide +kernel) (br_f (by decide +kernel) (br_f (by decide +kernel) (br_f (by decide +kernel) (br_f (by decide +kernel) (br_f (by decide +kernel) (br_t rfl (nm_e ?_)))))))
    exact g (by decide) (by decide) (by decide) (by decide) _ _ rfl rfl
  · refine br_f (by decide +kernel) (br_f (by decide +kernel) (br_f (by decide +kernel) (br_f (by decide +kernel) (br_f (by decide +kernel) (br_f (by decide +kernel) (br_f (by decide +kernel) (br_t rfl (nm_e ?_))))))))
    exact g (by decide) (by decide) (by decide) (by decide) _ _ rfl rfl
  · refine br_f (by decide +kernel) (br_f (by decide +kernel) (br_f (by decide +kernel) (br_f (by decide +kernel) (br_f (by decide +kernel) (br_f (by decide +kernel) (br_f (by decide +kernel) (br_f (by decide +kernel) (br_t rfl (nm_e ?_)))))))))
    exact g (by decide) (by decide) (by decide) (by decide) _ _ rfl rfl
  · refine br_f (by decide +kernel) (br_t rfl ?_)
    by_cases e : y = 0
    · exact br_t (by rw [e]; rfl) (h2 (Or.inl ⟨rfl, e⟩))
    · have hy0 : ¬ nI y = 0 := nI_ne0 (by omega) (by omega)
      have hy1 : ¬ nI y ≤ 0 := nI_nle (by omega) (by omega)
      have ht : ¬ ta_TR 6 c x y := by unfold ta_TR; omega
      refine br_f hy0 (br_f (by decide +kernel) (br_f (by decide +kernel) (br_f (by decide +kernel) (br_f (by decide +kernel) (br_f (by decide +kernel) (br_f (by decide +kernel) (br_f (by decide +kernel) (br_t rfl (br_f hy1 ⟨hy0, nm_e ?_⟩)))))))))
      exact key1 _ _ (by decide) ht (ta_aw_n (by decide) x y) rfl rfl
  · refine br_f (by decide +kernel) (br_f (by decide +kernel) (br_f (by decide +kernel) (br_f (by decide +kernel) (br_f (by decide +kernel) (br_f (by decide +kernel) (br_f (by decide +kernel) (br_f (by decide +kernel) (br_f (by decide +kernel) (br_f (by decide +kernel) (br_t rfl ?_))))))))))
    exact g (by decide) (by decide) (by decide) (by decide) _ _ rfl rfl
  · refine br_f (by decide +kernel) (br_f (by decide +kernel) (br_t rfl (br_c (fun q => ?_) (fun q => h2 (Or.inr ⟨rfl, q⟩)))))
    refine br_f (by decide +kernel) (br_f (by decide +kernel) (br_f (by decide +kernel) (br_f (by decide +kernel) (br_f (by decide +kernel) (br_f (by decide +kernel) (br_f (by decide +kernel) ?_))))))
    refine br_f (by decide +kernel) (br_f (by decide +kernel) (br_f (by decide +kernel) (br_f (by decide +kernel) (br_f (by decide +kernel) (br_f (by decide +kernel) ?_)))))
    exact key1 _ _ (by decide) (by unfold ta_TR; rintro (⟨z, _⟩ | ⟨_, z⟩); exact absurd z (by decide); exact z q) (ta_aw_n (by decide) x y) rfl rfl
  · refine br_f (by decide +kernel) (br_f (by decide +kernel) (br_f (by decide +kernel) ?_))
    refine br_f (by decide +kernel) (br_f (by decide +kernel) (br_f (by decide +kernel) (br_f (by decide +kernel) (br_f (by decide +kernel) (br_f (by decide +kernel) (br_f (by decide +kernel) ?_))))))
    refine br_f (by decide +kernel) (br_t rfl ?_)
    exact g (by decide) (by decide) (by decide) (by decide) _ _ rfl (tq_m_nI hv)
  · refine br_f (by decide +kernel) (br_f (by decide +kernel) (br_f (by decide +kernel) ?_))
    refine br_f (by decide +kernel) (br_f (by decide +kernel) (br_f (by decide +kernel) (br_f (by decide +kernel) (br_f (by decide +kernel) (br_f (by decide +kernel) (br_f (by decide +kernel) ?_))))))
    exact br_f (by decide +kernel) (br_f (by decide +kernel) (br_t rfl (key2 (Or.inl rfl))))
  · refine br_f (by decide +kernel) (br_f (by decide +kernel) (br_f (by decide +kernel) ?_))
    refine br_f (by decide +kernel) (br_f (by decide +kernel) (br_f (by decide +kernel) (br_f (by decide +kernel) (br_f (by decide +kernel) (br_f (by decide +kernel) (br_f (by decide +kernel) ?_))))))
    refine br_f (by decide +kernel) (br_f (by decide +kernel) (br_f (by decide +kernel) (br_t rfl (pk_eq x y (fun q => key2 (Or.inr (Or.inl ⟨rfl, q⟩))) (fun q => ?_)))))
    exact br_f (by decide +kernel) (br_f (by decide +kernel) (key1 _ _ (by decide) (ta_tr_n (by decide) (by decide) c x y) (by unfold ta_AW; omega) rfl rfl))
  · refine br_f (by decide +kernel) (br_f (by decide +kernel) (br_f (by decide +kernel) ?_))
    refine br_f (by decide +kernel) (br_f (by decide +kernel) (br_f (by decide +kernel) (br_f (by decide +kernel) (br_f (by decide +kernel) (br_f (by decide +kernel) (br_f (by decide +kernel) ?_))))))
    refine br_f (by decide +kernel) (br_f (by decide +kernel) (br_f (by decide +kernel) (br_f (by decide +kernel) (br_t rfl (pk_lt x y (fun q => key2 (Or.inr (Or.inr (Or.inl ⟨rfl, q⟩)))) (fun q => ?_))))))
    exact br_f (by decide +kernel) (key1 _ _ (by decide) (ta_tr_n (by decide) (by decide) c x y) (by unfold ta_AW; omega) rfl rfl)
  · refine br_f (by decide +kernel) (br_f (by decide +kernel) (br_f (by decide +kernel) ?_))
    refine br_f (by decide +kernel) (br_f (by decide +kernel) (br_f (by decide +kernel) (br_f (by decide +kernel) (br_f (by decide +kernel) (br_f (by decide +kernel) (br_f (by decide +kernel) ?_))))))
    refine br_f (by decide +kernel) (br_f (by decide +kernel) (br_f (by decide +kernel) (br_f (by decide +kernel) (br_f (by decide +kernel) (br_t rfl (pk_eq x 0 (fun q => key2 (Or.inr (Or.inr (Or.inr ⟨rfl, q⟩)))) (fun q => ?_)))))))
    exact key1 _ _ (by decide) (ta_tr_n (by decide) (by decide) c x y) (by unfold ta_AW; omega) rfl rfl
  · exact br_t rfl (h1 rfl)
theorem ya_after (post : Int32 → Prop) {L p x y v k : Nat} {c : Int32} (hl : yl = nI L) (hL : L ≤ 16) (hp : p < 16) (hx : x < 16) (hy : y < 16) (hv : v < 16) (hop : yop p = nI k) (hk : k ≤ 14) (hc : ycs p = c)
    (h1 : ¬ ta_TR k c x y → ya_EN L k c p x y → post (-1)) (h2 : ta_TR k c x y → post (-2))
    (h3 : ∀ j z, j < 256 → z < 16 → ¬ ta_TR k c x y → ¬ ya_EN L k c p x y → ya_SV L k c p x y v j z → post (nI (j * 16 + z))) : wpY_after post (yl, yk, ye, yop, ycs, ylo, yhi, yall, yla, yfo, yen, yfi, ytr) (nI p) (nI x) (nI y) (nI v) := by
  refine ya_after0 post hp hx hy hv hop hk hc (fun e => h1 (by subst e; exact ta_tr_n (by decide) (by decide) _ _ _) (Or.inl e)) h2 (fun nx ny g1 g2 g3 g4 g5 => ?_) (fun g => ?_)
  · refine ya_243 post hl hL _ _ _ (fun t ht e => ?_) (fun h => h1 g2 (Or.inr (Or.inl ⟨g2, g3, fun w => h ⟨p + 1, w, rfl⟩⟩)))
    have e' := (nI_eq (by omega) (by omega)).mp e
    subst e'
    have m1 := tq_m_lt nx
    have m2 := tq_m_lt ny
    have sv : ya_SV L k c p x y v ((p + 1) * 16 + tq_m nx) (tq_m ny) := ⟨g1, g2, g5, Or.inl ⟨g3, ht, by rw [g4]⟩⟩
    exact h3 _ _ (by omega) m2 g2 (fun w => ya_en_sv w sv) sv
  · obtain ⟨g1, g2⟩ := ya_aw_tr (c := c) g
    refine ya_243 post hl hL _ _ _ (fun t ht e => ?_) (fun h => h1 g2 (Or.inr (Or.inr ⟨g, h⟩)))
    have ek : 10 ≤ k ∧ k ≤ 13 := by unfold ta_AW at g; omega
    have m2 := tq_m_lt (nI y)
    have sv : ya_SV L k c p x y v (t * 16 + tq_m (nI x)) (tq_m (nI y)) := by
      refine ⟨g1, g2, ?_, Or.inr ⟨g, t, ht, e, by rw [tq_m_nI hx]⟩⟩
      unfold ya_z ta_gy
      rw [if_neg (by omega), if_neg (by omega), if_neg (by omega)]
    exact h3 _ _ (by rw [tq_m_nI hx]; omega) m2 g2 (fun w => ya_en_sv w sv) sv
end
end
section
/-! the reference's goOn, round and take -/
theorem yb_neg {m : Nat} (h : m < 2 ^ 31) : ¬ nI m = -2 ∧ ¬ nI m = -1 ∧ ¬ nI m < 0 := by
  refine ⟨fun e => ?_, fun e => ?_, nI_pos h⟩
  · have h1 := congrArg Int32.toInt e
    rw [nI_toInt h, show (-2 : Int32).toInt = -2 by decide] at h1
    omega
  · have h1 := congrArg Int32.toInt e
    rw [nI_toInt h, show (-1 : Int32).toInt = -1 by decide] at h1
    omega
theorem yb_div (j z : Nat) (hj : j < 256) (hz : z < 16) : nI (j * 16 + z) / 16 = nI j ∧ nI (j * 16 + z) - nI (j * 16 + z) / 16 * 16 = nI z := by
  have e : (16 : Int32) = nI 16 := rfl
  rw [e]
  refine ⟨?_, ?_⟩
  · rw [pk_div (by omega) (by decide) (by decide), show (j * 16 + z) / 16 = j by omega]
  · rw [pk_rem (by omega) (by decide) (by decide), show (j * 16 + z) % 16 = z by omega]
section
variable {yl yk ye : Int32} {yop ycs ylo yhi yall yla yfo yen yfi ytr : Nat → Int32}
theorem yb_26 (post : SY → Prop) (J : Int32 → Int32 → (Nat → Int32) → (Nat → Int32) → (Nat → Int32) → (Nat → Int32) → (Nat → Int32) → (Nat → Int32) → (Nat → Int32) → (Nat → Int32) → (Nat → Int32) → (Nat → Int32) → Prop) {L p x y v k : Nat} {c : Int32} (hl : yl = nI L) (hL : L ≤ 16) (hp : p < 16) (hx : x < 16) (hy : y < 16) (hv : v < 16) (hop : yop p = nI k) (hk : k ≤ 14) (hc : ycs p = c)
    (h2 : ta_TR k c x y → J (nI (v + 1)) ye yop ycs ylo yhi yall yla yfo yen yfi (upd ytr p (ytr p + 1))) (h1 : ¬ ta_TR k c x y → ya_EN L k c p x y → J (nI (v + 1)) 1 yop ycs ylo yhi yall yla yfo yen yfi ytr)
    (h3 : ∀ j z, j < 256 → z < 16 → ¬ ta_TR k c x y → ¬ ya_EN L k c p x y → ya_SV L k c p x y v j z → J (nI (v + 1)) ye yop ycs ylo yhi yall yla (upd yfo j (yfo j ||| (((1 : Int32) <<< (nI z &&& 31)) &&& (yall j ^^^ (-1))))) yen yfi ytr) :
    wY_goOn_26 post J (nI p) (nI x) (nI y) (nI v) yl yk ye yop ycs ylo yhi yall yla yfo yen yfi ytr := by
  have hi : vp_in (nI p) 16 := vp_in_nI hp (by decide)
  have h16 : ¬ (16 : Int32) = 0 := by decide
  refine ya_after _ hl hL hp hx hy hv hop hk hc (fun g1 g2 => ?_) (fun g => ?_) (fun j z hj hz g1 g2 g3 => ?_)
  · exact br_f (by decide) (br_t rfl (nm_r (nI_1 v) (h1 g1 g2)))
  · refine br_t rfl ⟨hi, hi, ?_⟩
    rw [nI_clamp (n := p) (by omega)]
    exact nm_e (nm_r (nI_1 v) (h2 g))
  · obtain ⟨n1, n2, _⟩ := yb_neg (m := j * 16 + z) (by omega)
    obtain ⟨d1, d2⟩ := yb_div j z hj hz
    have hj' : vp_in (nI j) 256 := vp_in_nI hj (by decide)
    refine br_f n1 (br_f n2 ?_)
    rw [d2, d1, nI_clamp (n := j) (by omega)]
    exact ⟨h16, nm_e ⟨h16, h16, hj', h16, hj', hj', nm_e (nm_r (nI_1 v) (h3 j z hj hz g1 g2 g3))⟩⟩
/-- what the values below v have brought -/
def yb_G (L k : Nat) (c : Int32) (p x y v : Nat) (all fo fo' tr tr' : Nat → Int32) (e e' : Int32) : Prop :=
  (∀ j, j < 256 → ∀ z, tq_B (fo' j) z ↔ tq_B (fo j) z ∨ ((∃ w, w < v ∧ (w = 0 ∨ k = 9) ∧ ya_SV L k c p x y w j z) ∧ ¬ tq_B (all j) z)) ∧
  (e' = 0 ∨ e' = 1) ∧ (e' = 1 ↔ e = 1 ∨ (0 < v ∧ ya_EN L k c p x y)) ∧
  (∀ q, q ≠ p → tr' q = tr q) ∧ tr' p = tr p + nI (tq_b (0 < v ∧ ta_TR k c x y))
theorem yb_3 (post : SY → Prop) {L p x y k : Nat} {c : Int32} (hl : yl = nI L) (hL : L ≤ 16) (hp : p < 16) (hx : x < 16) (hy : y < 16) (hop : yop p = nI k) (hk : k ≤ 14) (hc : ycs p = c)
    (H : ∀ e fo tr, yb_G L k c p x y 16 yall yfo fo ytr tr ye e → post (yl, yk, e, yop, ycs, ylo, yhi, yall, yla, fo, yen, yfi, tr)) :
    ∀ d v e fo tr, v + d = 16 → yb_G L k c p x y v yall yfo fo ytr tr ye e → wY_goOn_3 post (nI p) (nI x) (nI y) yl yk (d + 1) (nI v) e yop ycs ylo yhi yall yla fo yen yfi tr := by
  intro d
  induction d with
  | zero =>
    intro v e fo tr hv h
    obtain rfl : v = 16 := by omega
    exact br_t (nI_le (a := 16) (b := 16) (Nat.le_refl _) (by decide)) (H _ _ _ h)
  | succ d ih =>
    intro v e fo tr hv h
    rw [wY_goOn_3]
    refine br_f (nI_ge (b := 16) (by omega) (by decide)) ?_
    obtain ⟨g1, g2, g3, g4, g5⟩ := h
    have ssv : (∀ j z, ¬ ((v = 0 ∨ k = 9) ∧ ya_SV L k c p x y v j z)) → ∀ j z, (∃ w, w < v + 1 ∧ (w = 0 ∨ k = 9) ∧ ya_SV L k c p x y w j z) ↔ (∃ w, w < v ∧ (w = 0 ∨ k = 9) ∧ ya_SV L k c p x y w j z) := fun hn j z => by
      constructor
      · rintro ⟨w, hw, q⟩
        by_cases ew : w = v
        · subst ew; exact absurd q (hn j z)
        · exact ⟨w, by omega, q⟩
      · rintro ⟨w, hw, q⟩; exact ⟨w, by omega, q⟩
    have go : (v = 0 ∨ k = 9) → wY_goOn_26 post (wY_goOn_3 post (nI p) (nI x) (nI y) yl yk (d + 1)) (nI p) (nI x) (nI y) (nI v) yl yk e yop ycs ylo yhi yall yla fo yen yfi tr := fun hv0 => by
      refine yb_26 post _ hl hL hp hx hy (by omega) hop hk hc (fun t => ?_) (fun t1 t2 => ?_) (fun j z hj hz t1 t2 t3 => ?_)
      · have hv1 : v = 0 := by
          rcases hv0 with q | q
          · exact q
          · subst q; exact absurd t (ta_tr_n (by decide) (by decide) _ _ _)
        subst hv1
        refine ih 1 e fo _ (by omega) ⟨fun j hj z => ?_, g2, ?_, fun q hq => ?_, ?_⟩
        · rw [g1 j hj, ssv fun j z q => ya_tr_sv t q.2]
        · rw [g3]
          exact ⟨fun q => q.elim Or.inl (fun q => by omega), fun q => q.elim Or.inl (fun q => absurd q.2 (ya_tr_en t))⟩
        · rw [pk_un hq]; exact g4 q hq
        · rw [pk_us, g5, tq_bf (fun q => by omega), tq_bt ⟨by decide, t⟩, nI_0, Int32.add_zero]; rfl
      · refine ih (v + 1) 1 fo tr (by omega) ⟨fun j hj z => ?_, Or.inr rfl, ⟨fun _ => Or.inr ⟨by omega, t2⟩, fun _ => rfl⟩, g4, ?_⟩
        · rw [g1 j hj, ssv fun j z q => ya_en_sv t2 q.2]
        · rw [g5, tq_bf (fun q => t1 q.2), tq_bf (fun q => t1 q.2)]
      · refine ih (v + 1) e _ tr (by omega) ⟨fun j' hj' z' => ?_, g2, ?_, g4, ?_⟩
        · have sp : (∃ w, w < v + 1 ∧ (w = 0 ∨ k = 9) ∧ ya_SV L k c p x y w j' z') ↔ (∃ w, w < v ∧ (w = 0 ∨ k = 9) ∧ ya_SV L k c p x y w j' z') ∨ (j' = j ∧ z' = z) := by
            constructor
            · rintro ⟨w, hw, q1, q2⟩
              by_cases ew : w = v
              · subst ew; exact Or.inr (ya_sv_u hL t3 q2)
              · exact Or.inl ⟨w, by omega, q1, q2⟩
            · rintro (⟨w, hw, q⟩ | ⟨rfl, rfl⟩)
              · exact ⟨w, by omega, q⟩
              · exact ⟨v, by omega, hv0, t3⟩
          rw [sp]
          by_cases ej : j' = j
          · subst ej
            rw [pk_us, tq_or, g1 _ hj, tq_andn, tq_one (by omega)]
            constructor
            · rintro ((q | ⟨q1, q2⟩) | ⟨q1, q2⟩)
              · exact Or.inl q
              · exact Or.inr ⟨Or.inl q1, q2⟩
              · exact Or.inr ⟨Or.inr ⟨rfl, q1⟩, q2⟩
            · rintro (q | ⟨q1 | q1, q2⟩)
              · exact Or.inl (Or.inl q)
              · exact Or.inl (Or.inr ⟨q1, q2⟩)
              · exact Or.inr ⟨q1.2, q2⟩
          · rw [pk_un ej, g1 _ hj']
            constructor
            · rintro (q | ⟨q1, q2⟩)
              · exact Or.inl q
              · exact Or.inr ⟨Or.inl q1, q2⟩
            · rintro (q | ⟨q1 | q1, q2⟩)
              · exact Or.inl q
              · exact Or.inr ⟨q1, q2⟩
              · exact absurd q1.1 ej
        · rw [g3]
          exact ⟨fun q => q.elim Or.inl (fun q => absurd q.2 t2), fun q => q.elim Or.inl (fun q => absurd q.2 t2)⟩
        · rw [g5, tq_bf (fun q => t1 q.2), tq_bf (fun q => t1 q.2)]
    refine pk_eq v 0 (fun e0 => go (Or.inl e0)) (fun e0 => ⟨vp_in_nI hp (by decide), ?_⟩) rfl rfl (by omega) (by decide)
    rw [nI_clamp (n := p) (by omega), hop]
    refine pk_eq k 9 (fun e9 => go (Or.inr e9)) (fun e9 => nm_r (nI_1 v) (ih (v + 1) e fo tr (by omega) ⟨fun j hj z => ?_, g2, ?_, g4, ?_⟩)) rfl rfl (by omega) (by decide)
    · rw [g1 j hj, ssv fun j z q => by omega]
    · rw [g3]
      exact ⟨fun q => q.elim Or.inl (fun q => Or.inr ⟨by omega, q.2⟩), fun q => q.elim Or.inl (fun q => Or.inr ⟨by omega, q.2⟩)⟩
    · rw [g5, tq_bc (P := 0 < v ∧ ta_TR k c x y) (Q := 0 < v + 1 ∧ ta_TR k c x y) ⟨fun q => ⟨by omega, q.2⟩, fun q => ⟨by omega, q.2⟩⟩]
/-- goOn at the state (i, y) -/
theorem yb_go (post : SY → Prop) {L i y : Nat} {o : Nat → Nat} (hl : yl = nI L) (hL : L ≤ 16) (hop : ∀ p, p < 16 → yop p = nI (o p) ∧ o p ≤ 14) (hi : i < 256) (hy : y < 16) (he : ye = 0 ∨ ye = 1)
    (H : ∀ e fo tr, (∀ j, j < 256 → ∀ z, tq_B (fo j) z ↔ tq_B (yfo j) z ∨ (ta_SR L o ycs i y j z ∧ ¬ tq_B (yall j) z)) → (e = 0 ∨ e = 1) → (e = 1 ↔ ye = 1 ∨ ta_EN L o ycs i y) →
      (∀ q, q ≠ i / 16 → tr q = ytr q) → tr (i / 16) = ytr (i / 16) + nI (tq_b (ta_TR (o (i / 16)) (ycs (i / 16)) (i % 16) y)) → post (yl, yk, e, yop, ycs, ylo, yhi, yall, yla, fo, yen, yfi, tr)) :
    wpY_goOn post (yl, yk, ye, yop, ycs, ylo, yhi, yall, yla, yfo, yen, yfi, ytr) (nI (i / 16)) (nI (i % 16)) (nI y) := by
  have hp : i / 16 < 16 := by omega
  have hx : i % 16 < 16 := Nat.mod_lt _ (by decide)
  have hpx : i / 16 * 16 + i % 16 = i := by omega
  refine ⟨17, yb_3 post hl hL hp hx hy (hop _ hp).1 (hop _ hp).2 rfl (fun e fo tr h => ?_) 16 0 ye yfo ytr rfl ⟨fun j hj z => ⟨Or.inl, fun q => q.elim id (fun ⟨⟨w, hw, _⟩, _⟩ => by omega)⟩, he, ⟨Or.inl, fun q => q.elim id (fun q => by omega)⟩, fun _ _ => rfl, ?_⟩⟩
  · obtain ⟨g1, g2, g3, g4, g5⟩ := h
    refine H e fo tr (fun j hj z => ?_) g2 ?_ g4 ?_
    · rw [g1 j hj, ya_SR hx hy, hpx]
    · rw [g3, ya_ENi hx, hpx]
      exact ⟨fun q => q.elim Or.inl (fun q => Or.inr q.2), fun q => q.elim Or.inl (fun q => Or.inr ⟨by decide, q⟩)⟩
    · rw [g5, tq_bc (P := 0 < 16 ∧ ta_TR (o (i / 16)) (ycs (i / 16)) (i % 16) y) (Q := ta_TR (o (i / 16)) (ycs (i / 16)) (i % 16) y) ⟨fun q => q.2, fun q => ⟨by decide, q⟩⟩]
  · rw [tq_bf (fun q => by omega), nI_0, Int32.add_zero]
end
/-- the state of a round when the states before (i, y) have gone on; T: what was trapped before it -/
def yb_T (o : Nat → Nat) (c F : Nat → Int32) (j y : Nat) : Prop := tq_B (F j) y ∧ ta_TR (o (j / 16)) (c (j / 16)) (j % 16) y
noncomputable def yb_n (o : Nat → Nat) (c F : Nat → Int32) (q i y : Nat) : Nat :=
  tq_s (fun j => if j / 16 = q then tq_r (yb_T o c F j) else 0) i + (if i / 16 = q then tq_s (fun z => tq_b (yb_T o c F i z)) y else 0)
def yb_B (i y a b : Nat) : Prop := a < i ∨ (a = i ∧ b < y)
def yb_V (L : Nat) (o : Nat → Nat) (c F all : Nat → Int32) (E : Prop) (T : Nat → Nat) (i y : Nat) (e : Int32) (fo tr : Nat → Int32) : Prop :=
  (∀ j, j < 256 → ∀ z, tq_B (fo j) z ↔ (∃ a b, yb_B i y a b ∧ tq_B (F a) b ∧ ta_SR L o c a b j z) ∧ ¬ tq_B (all j) z) ∧
  (e = 0 ∨ e = 1) ∧ (e = 1 ↔ E ∨ ∃ a b, yb_B i y a b ∧ tq_B (F a) b ∧ ta_EN L o c a b) ∧ (∀ q, q < 16 → tr q = nI (T q + yb_n o c F q i y))
theorem yb_B_s (i y a b : Nat) : yb_B i (y + 1) a b ↔ yb_B i y a b ∨ (a = i ∧ b = y) := by unfold yb_B; omega
theorem yb_n_s (o : Nat → Nat) (c F : Nat → Int32) (q i y : Nat) : yb_n o c F q i (y + 1) = yb_n o c F q i y + (if i / 16 = q then tq_b (yb_T o c F i y) else 0) := by
  unfold yb_n
  by_cases e : i / 16 = q
  · rw [if_pos e, if_pos e, if_pos e]
    show _ + (tq_s (fun z => tq_b (yb_T o c F i z)) y + tq_b (yb_T o c F i y)) = _
    omega
  · rw [if_neg e, if_neg e, if_neg e]
theorem yb_n_r (o : Nat → Nat) (c F : Nat → Int32) (q i : Nat) : yb_n o c F q i 16 = yb_n o c F q (i + 1) 0 := by
  unfold yb_n
  show _ = tq_s (fun j => if j / 16 = q then tq_r (yb_T o c F j) else 0) i + (if i / 16 = q then tq_r (yb_T o c F i) else 0) + (if (i + 1) / 16 = q then 0 else 0)
  by_cases e : i / 16 = q
  · rw [if_pos e, if_pos e]
    unfold tq_r
    split <;> omega
  · rw [if_neg e, if_neg e]
    split <;> omega
theorem yb_V_n {L : Nat} {o : Nat → Nat} {c F all : Nat → Int32} {E : Prop} {T : Nat → Nat} {i y : Nat} {e : Int32} {fo tr : Nat → Int32} (h : yb_V L o c F all E T i y e fo tr) (hb : ¬ tq_B (F i) y) : yb_V L o c F all E T i (y + 1) e fo tr := by
  obtain ⟨g1, g2, g3, g4⟩ := h
  have sp : ∀ (P : Nat → Nat → Prop), (∃ a b, yb_B i (y + 1) a b ∧ tq_B (F a) b ∧ P a b) ↔ ∃ a b, yb_B i y a b ∧ tq_B (F a) b ∧ P a b := fun P => by
    constructor
    · rintro ⟨a, b, q1, q2, q3⟩
      rcases (yb_B_s i y a b).mp q1 with q | ⟨rfl, rfl⟩
      · exact ⟨a, b, q, q2, q3⟩
      · exact absurd q2 hb
    · rintro ⟨a, b, q1, q2, q3⟩
      exact ⟨a, b, (yb_B_s i y a b).mpr (Or.inl q1), q2, q3⟩
  refine ⟨fun j hj z => ?_, g2, ?_, fun q hq => ?_⟩
  · rw [g1 j hj, sp (fun a b => ta_SR L o c a b j z)]
  · rw [g3, sp (fun a b => ta_EN L o c a b)]
  · rw [g4 q hq, yb_n_s, tq_bf (fun w => hb w.1)]
    split <;> rfl
theorem yb_V_y {L : Nat} {o : Nat → Nat} {c F all : Nat → Int32} {E : Prop} {T : Nat → Nat} {i y : Nat} {e e' : Int32} {fo tr fo' tr' : Nat → Int32} (h : yb_V L o c F all E T i y e fo tr) (hb : tq_B (F i) y)
    (h1 : ∀ j, j < 256 → ∀ z, tq_B (fo' j) z ↔ tq_B (fo j) z ∨ (ta_SR L o c i y j z ∧ ¬ tq_B (all j) z)) (h2 : e' = 0 ∨ e' = 1) (h3 : e' = 1 ↔ e = 1 ∨ ta_EN L o c i y)
    (h4 : ∀ q, q ≠ i / 16 → tr' q = tr q) (h5 : tr' (i / 16) = tr (i / 16) + nI (tq_b (ta_TR (o (i / 16)) (c (i / 16)) (i % 16) y))) : yb_V L o c F all E T i (y + 1) e' fo' tr' := by
  obtain ⟨g1, g2, g3, g4⟩ := h
  have sp : ∀ (P : Nat → Nat → Prop), (∃ a b, yb_B i (y + 1) a b ∧ tq_B (F a) b ∧ P a b) ↔ (∃ a b, yb_B i y a b ∧ tq_B (F a) b ∧ P a b) ∨ P i y := fun P => by
    constructor
    · rintro ⟨a, b, q1, q2, q3⟩
      rcases (yb_B_s i y a b).mp q1 with q | ⟨rfl, rfl⟩
      · exact Or.inl ⟨a, b, q, q2, q3⟩
      · exact Or.inr q3
    · rintro (⟨a, b, q1, q2, q3⟩ | q)
      · exact ⟨a, b, (yb_B_s i y a b).mpr (Or.inl q1), q2, q3⟩
      · exact ⟨i, y, (yb_B_s i y i y).mpr (Or.inr ⟨rfl, rfl⟩), hb, q⟩
  refine ⟨fun j hj z => ?_, h2, ?_, fun q hq => ?_⟩
  · rw [h1 j hj, g1 j hj, sp (fun a b => ta_SR L o c a b j z), or_and_right]
  · rw [h3, g3, sp (fun a b => ta_EN L o c a b), or_assoc]
  · rw [yb_n_s]
    by_cases e : i / 16 = q
    · subst e
      rw [h5, g4 _ hq, if_pos rfl, nI_add, tq_bc (P := yb_T o c F i y) (Q := ta_TR (o (i / 16)) (c (i / 16)) (i % 16) y) ⟨fun w => w.2, fun w => ⟨hb, w⟩⟩, Nat.add_assoc]
    · rw [h4 q (fun w => e w.symm), g4 q hq, if_neg e, Nat.add_zero]
theorem yb_V_r {L : Nat} {o : Nat → Nat} {c F all : Nat → Int32} {E : Prop} {T : Nat → Nat} {i : Nat} {e : Int32} {fo tr : Nat → Int32} (h : yb_V L o c F all E T i 16 e fo tr) (hf : ∀ y, tq_B (F i) y → y < 16) : yb_V L o c F all E T (i + 1) 0 e fo tr := by
  obtain ⟨g1, g2, g3, g4⟩ := h
  have sp : ∀ (P : Nat → Nat → Prop), (∃ a b, yb_B i 16 a b ∧ tq_B (F a) b ∧ P a b) ↔ ∃ a b, yb_B (i + 1) 0 a b ∧ tq_B (F a) b ∧ P a b := fun P => by
    constructor
    · rintro ⟨a, b, q1, q2, q3⟩
      exact ⟨a, b, by unfold yb_B at *; omega, q2, q3⟩
    · rintro ⟨a, b, q1, q2, q3⟩
      refine ⟨a, b, ?_, q2, q3⟩
      unfold yb_B at *
      by_cases e : a = i
      · subst e; exact Or.inr ⟨rfl, hf b q2⟩
      · omega
  refine ⟨fun j hj z => ?_, g2, ?_, fun q hq => ?_⟩
  · rw [g1 j hj, sp (fun a b => ta_SR L o c a b j z)]
  · rw [g3, sp (fun a b => ta_EN L o c a b)]
  · rw [g4 q hq, yb_n_r]
section
variable {yl yk ye : Int32} {yop ycs ylo yhi yall yla yfo yen yfi ytr : Nat → Int32}
theorem yb_33 (post : SY → Prop) (J : Int32 → Int32 → Int32 → Int32 → (Nat → Int32) → (Nat → Int32) → (Nat → Int32) → (Nat → Int32) → (Nat → Int32) → (Nat → Int32) → (Nat → Int32) → (Nat → Int32) → (Nat → Int32) → (Nat → Int32) → Prop) {L i : Nat} {o : Nat → Nat} {E : Prop} {T : Nat → Nat} (hl : yl = nI L) (hL : L ≤ 16) (hop : ∀ p, p < 16 → yop p = nI (o p) ∧ o p ≤ 14) (hi : i < 256)
    (hf : ∀ y, tq_B (yla i) y → y < 16)
    (H : ∀ e fo tr, yb_V L o ycs yla yall E T (i + 1) 0 e fo tr → J (nI (i + 1)) yl yk e yop ycs ylo yhi yall yla fo yen yfi tr) :
    ∀ d y e fo tr, y + d = 16 → yb_V L o ycs yla yall E T i y e fo tr → wY_round_33 post J (nI i) (d + 1) (nI y) yl yk e yop ycs ylo yhi yall yla fo yen yfi tr := by
  have h16 : ¬ (16 : Int32) = 0 := by decide
  have hd : nI i / 16 = nI (i / 16) := pk_div (d := 16) (by omega) (by decide) (by decide)
  have hm : nI i - nI i / 16 * 16 = nI (i % 16) := pk_rem (d := 16) (by omega) (by decide) (by decide)
  intro d
  induction d with
  | zero =>
    intro y e fo tr hy h
    obtain rfl : y = 16 := by omega
    exact br_t (nI_le (a := 16) (b := 16) (Nat.le_refl _) (by decide)) (nm_r (nI_1 i) (H _ _ _ (yb_V_r h hf)))
  | succ d ih =>
    intro y e fo tr hy h
    rw [wY_round_33]
    dsimp only
    rw [hm, hd, nI_clamp (n := i) (by omega)]
    refine br_f (nI_ge (b := 16) (by omega) (by decide)) ⟨vp_in_nI hi (by decide), ?_⟩
    by_cases hb : tq_B (yla i) y
    · refine br_t ((tq_bit _ (by omega)).mpr hb) ⟨h16, h16, yb_go _ hl hL hop hi (by omega) h.2.1 fun e' fo' tr' h1 h2 h3 h4 h5 => ?_⟩
      exact nm_r (nI_1 y) (ih (y + 1) e' fo' tr' (by omega) (yb_V_y h hb h1 h2 h3 h4 h5))
    · exact br_f (fun z => hb ((tq_bit _ (by omega)).mp z)) (nm_r (nI_1 y) (ih (y + 1) e fo tr (by omega) (yb_V_n h hb)))
theorem yb_24 (post : SY → Prop) {L : Nat} {o : Nat → Nat} {E : Prop} {T : Nat → Nat} (hl : yl = nI L) (hL : L ≤ 16) (hop : ∀ p, p < 16 → yop p = nI (o p) ∧ o p ≤ 14)
    (hf : ∀ i, i < 256 → ∀ y, tq_B (yla i) y → y < 16)
    (H : ∀ e fo tr, yb_V L o ycs yla yall E T 256 0 e fo tr → post (yl, yk, e, yop, ycs, ylo, yhi, yall, yla, fo, yen, yfi, tr)) :
    ∀ d i e fo tr, i + d = 256 → yb_V L o ycs yla yall E T i 0 e fo tr → wY_round_24 post (d + 1) (nI i) yl yk e yop ycs ylo yhi yall yla fo yen yfi tr := by
  intro d
  induction d with
  | zero =>
    intro i e fo tr hi h
    obtain rfl : i = 256 := by omega
    exact br_t (nI_le (a := 256) (b := 256) (Nat.le_refl _) (by decide)) (H _ _ _ h)
  | succ d ih =>
    intro i e fo tr hi h
    rw [wY_round_24]
    exact br_f (nI_ge (b := 256) (by omega) (by decide)) ⟨17, yb_33 post _ hl hL hop (by omega) (hf i (by omega)) (fun e' fo' tr' h' => ih (i + 1) e' fo' tr' (by omega) h') 16 0 e fo tr rfl h⟩
theorem yb_2 (post : SY → Prop) {L : Nat} {o : Nat → Nat} {E : Prop} {T : Nat → Nat} (hl : yl = nI L) (hL : L ≤ 16) (hop : ∀ p, p < 16 → yop p = nI (o p) ∧ o p ≤ 14)
    (hf : ∀ i, i < 256 → ∀ y, tq_B (yla i) y → y < 16) (he : ye = 0 ∨ ye = 1) (hE : ye = 1 ↔ E) (hT : ∀ q, q < 16 → ytr q = nI (T q))
    (H : ∀ e fo tr, yb_V L o ycs yla yall E T 256 0 e fo tr → post (yl, yk, e, yop, ycs, ylo, yhi, yall, yla, fo, yen, yfi, tr)) :
    ∀ d i fo, i + d = 256 → (∀ j, j < i → fo j = 0) → wY_round_2 post yl yk ye (d + 1) (nI i) yop ycs ylo yhi yall yla fo yen yfi ytr := by
  intro d
  induction d with
  | zero =>
    intro i fo hi h
    obtain rfl : i = 256 := by omega
    refine br_t (nI_le (a := 256) (b := 256) (Nat.le_refl _) (by decide)) ⟨257, yb_24 post hl hL hop hf H 256 0 ye fo ytr rfl ⟨fun j hj z => ?_, he, ?_, fun q hq => ?_⟩⟩
    · rw [h j hj]; exact ⟨fun q => absurd q (tq_0 z), fun ⟨⟨a, b, q, _⟩, _⟩ => by unfold yb_B at q; omega⟩
    · rw [hE]; exact ⟨Or.inl, fun q => q.elim id (fun ⟨a, b, q, _⟩ => by unfold yb_B at q; omega)⟩
    · rw [hT q hq]
      unfold yb_n
      show _ = nI (T q + (0 + if 0 / 16 = q then 0 else 0))
      split <;> rfl
  | succ d ih =>
    intro i fo hi h
    rw [wY_round_2]
    dsimp only
    rw [nI_clamp (n := i) (by omega)]
    refine br_f (nI_ge (b := 256) (by omega) (by decide)) ⟨vp_in_nI (by omega) (by decide), nm_e (nm_r (nI_1 i) (ih (i + 1) _ (by omega) (lt_s (fun a ha => ?_) pk_us)))⟩
    rw [pk_un (by omega)]; exact h a ha
theorem yb_round (post : SY → Prop) {L : Nat} {o : Nat → Nat} {E : Prop} {T : Nat → Nat} (hl : yl = nI L) (hL : L ≤ 16) (hop : ∀ p, p < 16 → yop p = nI (o p) ∧ o p ≤ 14)
    (hf : ∀ i, i < 256 → ∀ y, tq_B (yla i) y → y < 16) (he : ye = 0 ∨ ye = 1) (hE : ye = 1 ↔ E) (hT : ∀ q, q < 16 → ytr q = nI (T q))
    (H : ∀ e fo tr, yb_V L o ycs yla yall E T 256 0 e fo tr → post (yl, yk, e, yop, ycs, ylo, yhi, yall, yla, fo, yen, yfi, tr)) : wpY_round post (yl, yk, ye, yop, ycs, ylo, yhi, yall, yla, yfo, yen, yfi, ytr) :=
  ⟨257, yb_2 post hl hL hop hf he hE hT H 256 0 yfo rfl lt_0⟩
theorem yb_t4 (post : Int32 → SY → Prop) {lv : Int32} (hl : ¬ lv = -5)
    (H : ∀ r all la fi, (∀ i, i < 256 → la i = yfo i ∧ all i = yall i ||| yfo i) → ((r = 0 ∧ ∀ i, i < 256 → yfo i = 0) ∨ (r = 1 ∧ ∃ i, i < 256 ∧ ¬ yfo i = 0)) →
      xc_F lv (fun p => ∃ i, i < 256 ∧ i / 16 = p ∧ ¬ yfo i = 0) yfi fi → post r (yl, yk, ye, yop, ycs, ylo, yhi, all, la, yfo, yen, fi, ytr)) :
    ∀ d i r all la fi, i + d = 256 → (∀ a, a < i → la a = yfo a ∧ all a = yall a ||| yfo a) → (∀ a, i ≤ a → all a = yall a) →
      ((r = 0 ∧ ∀ a, a < i → yfo a = 0) ∨ (r = 1 ∧ ∃ a, a < i ∧ ¬ yfo a = 0)) → xc_F lv (fun p => ∃ a, a < i ∧ a / 16 = p ∧ ¬ yfo a = 0) yfi fi →
      wY_take_4 post lv yl yk ye (d + 1) r (nI i) yop ycs ylo yhi all la yfo yen fi ytr := by
  intro d
  induction d with
  | zero =>
    intro i r all la fi hi h1 h2 h3 h4
    obtain rfl : i = 256 := by omega
    refine br_t (nI_le (a := 256) (b := 256) (Nat.le_refl _) (by decide)) ⟨?_, H r all la fi h1 h3 h4⟩
    rcases h3 with ⟨rfl, _⟩ | ⟨rfl, _⟩ <;> rfl
  | succ d ih =>
    intro i r all la fi hi h1 h2 h3 h4
    have hb : vp_in (nI i) 256 := vp_in_nI (by omega) (by decide)
    have h16 : ¬ (16 : Int32) = 0 := by decide
    have hd : nI i / 16 = nI (i / 16) := pk_div (d := 16) (by omega) (by decide) (by decide)
    have hq : vp_in (nI (i / 16)) 16 := vp_in_nI (by omega) (by decide)
    rw [wY_take_4]
    dsimp only
    rw [hd, nI_clamp (n := i) (by omega), nI_clamp (n := i / 16) (by omega)]
    have nw : ∀ a, a < i + 1 → upd la i (yfo i) a = yfo a ∧ upd all i (all i ||| yfo i) a = yall a ||| yfo a :=
      lt_s (fun a ha => by rw [pk_un (by omega), pk_un (by omega)]; exact h1 a ha) (by rw [pk_us, pk_us, h2 i (Nat.le_refl _)]; exact ⟨rfl, rfl⟩)
    have n2 : ∀ a, i + 1 ≤ a → upd all i (all i ||| yfo i) a = yall a := fun a ha => by rw [pk_un (by omega)]; exact h2 a (by omega)
    refine br_f (nI_ge (b := 256) (by omega) (by decide)) ⟨hb, hb, hb, nm_e ⟨hb, hb, nm_e ⟨hb, ?_⟩⟩⟩
    refine br_c (fun z => nm_r (nI_1 i) (ih (i + 1) r _ _ fi (by omega) nw n2 ?_ (xc_F_c h4 fun p hp => ?_))) (fun z => ⟨h16, hq, br_c (fun w => ⟨h16, hq, nm_e (nm_r (nI_1 i) (ih (i + 1) 1 _ _ _ (by omega) nw n2 (Or.inr ⟨rfl, i, by omega, z⟩) (xc_F_c (xc_F_u h4 hl (by omega) w) fun p hp => ?_)))⟩) (fun w => nm_r (nI_1 i) (ih (i + 1) 1 _ _ fi (by omega) nw n2 (Or.inr ⟨rfl, i, by omega, z⟩) (xc_F_c (xc_F_k h4 w) fun p hp => ?_)))⟩)
    · rcases h3 with ⟨e, q⟩ | ⟨e, a, ha, q⟩
      · exact Or.inl ⟨e, lt_s q z⟩
      · exact Or.inr ⟨e, a, by omega, q⟩
    · constructor
      · rintro ⟨a, ha, q1, q2⟩; exact ⟨a, by omega, q1, q2⟩
      · rintro ⟨a, ha, q1, q2⟩
        by_cases e : a = i
        · subst e; exact absurd z q2
        · exact ⟨a, by omega, q1, q2⟩
    · constructor
      · rintro (⟨a, ha, q1, q2⟩ | q)
        · exact ⟨a, by omega, q1, q2⟩
        · exact ⟨i, by omega, q.symm, z⟩
      · rintro ⟨a, ha, q1, q2⟩
        by_cases e : a = i
        · subst e; exact Or.inr q1.symm
        · exact Or.inl ⟨a, by omega, q1, q2⟩
    · constructor
      · rintro (⟨a, ha, q1, q2⟩ | q)
        · exact ⟨a, by omega, q1, q2⟩
        · exact ⟨i, by omega, q.symm, z⟩
      · rintro ⟨a, ha, q1, q2⟩
        by_cases e : a = i
        · subst e; exact Or.inr q1.symm
        · exact Or.inl ⟨a, by omega, q1, q2⟩
theorem yb_take (post : Int32 → SY → Prop) {lv : Int32} (hl : ¬ lv = -5)
    (H : ∀ r all la fi, (∀ i, i < 256 → la i = yfo i ∧ all i = yall i ||| yfo i) → ((r = 0 ∧ ∀ i, i < 256 → yfo i = 0) ∨ (r = 1 ∧ ∃ i, i < 256 ∧ ¬ yfo i = 0)) →
      xc_F lv (fun p => ∃ i, i < 256 ∧ i / 16 = p ∧ ¬ yfo i = 0) yfi fi → post r (yl, yk, ye, yop, ycs, ylo, yhi, all, la, yfo, yen, fi, ytr)) : wpY_take post (yl, yk, ye, yop, ycs, ylo, yhi, yall, yla, yfo, yen, yfi, ytr) lv :=
  ⟨257, yb_t4 post hl H 256 0 0 yall yla yfi rfl lt_0 (fun _ _ => rfl) (Or.inl ⟨rfl, lt_0⟩) fun p hp => ⟨fun _ ⟨a, ha, _⟩ => by omega, fun _ => rfl⟩⟩
end
end
section
/-! the reference's runs without end -/
theorem yc_shl (P : Prop) {y : Nat} (hy : y < 32) (z : Nat) : tq_B (nI (tq_b P) <<< (nI y &&& 31)) z ↔ P ∧ z = y := by
  rcases Classical.em P with h | h
  · rw [tq_bt h]
    show tq_B ((1 : Int32) <<< (nI y &&& 31)) z ↔ _
    rw [tq_one hy]
    exact ⟨fun q => ⟨h, q⟩, fun q => q.2⟩
  · rw [tq_bf h]
    refine ⟨fun q => ?_, fun q => absurd q.1 h⟩
    have hz := tq_lt q
    unfold tq_B at q
    rw [nI_0, b_shl y hy 0 hz, b_0, Bool.and_false] at q
    exact absurd q (by decide)
section
variable {yl yk ye : Int32} {yop ycs ylo yhi yall yla yfo yen yfi ytr : Nat → Int32}
theorem yc_53 (post : Int32 → Prop) (J4 J13 : Int32 → Int32 → Prop) {L i y v : Nat} {m : Int32} {o : Nat → Nat} (hl : yl = nI L) (hL : L ≤ 16) (hop : ∀ p, p < 16 → yop p = nI (o p) ∧ o p ≤ 14) (hi : i < 256) (hy : y < 16) (hv : v < 16)
    (h1 : (∀ j z, ¬ ya_SV L (o (i / 16)) (ycs (i / 16)) (i / 16) (i % 16) y v j z) → J13 m (nI (v + 1)))
    (h3 : ∀ j z, j < 256 → ya_SV L (o (i / 16)) (ycs (i / 16)) (i / 16) (i % 16) y v j z → J13 (m ||| (nI (tq_b (tq_B (yen j) z)) <<< (nI y &&& 31))) (nI (v + 1))) :
    wY_kept_53 post J4 J13 (nI i) m (nI y) (nI v) yl yk ye yop ycs ylo yhi yall yla yfo yen yfi ytr := by
  have h16 : ¬ (16 : Int32) = 0 := by decide
  have hd : nI i / 16 = nI (i / 16) := pk_div (d := 16) (by omega) (by decide) (by decide)
  have hm : nI i - nI i / 16 * 16 = nI (i % 16) := pk_rem (d := 16) (by omega) (by decide) (by decide)
  have hp : i / 16 < 16 := by omega
  have hx : i % 16 < 16 := Nat.mod_lt _ (by decide)
  unfold wY_kept_53
  rw [hm, hd]
  refine ⟨h16, h16, ya_after _ hl hL hp hx hy hv (hop _ hp).1 (hop _ hp).2 rfl (fun g1 g2 => ?_) (fun g => ?_) (fun j z hj hz g1 g2 g3 => ?_)⟩
  · exact br_t (by decide) (nm_r (nI_1 v) (h1 fun j z => ya_en_sv g2))
  · exact br_t (by decide) (nm_r (nI_1 v) (h1 fun j z => ya_tr_sv g))
  · obtain ⟨_, _, n3⟩ := yb_neg (m := j * 16 + z) (by omega)
    obtain ⟨d1, d2⟩ := yb_div j z hj hz
    refine br_f n3 ?_
    rw [d2, d1, nI_clamp (n := j) (by omega), tq_bitN _ (by omega)]
    exact ⟨h16, vp_in_nI hj (by decide), h16, nm_e (nm_r (nI_1 v) (h3 j z hj g3))⟩
theorem yc_13 (post : Int32 → Prop) (J4 : Int32 → Int32 → Prop) {L i y : Nat} {m0 : Int32} {o : Nat → Nat} (hl : yl = nI L) (hL : L ≤ 16) (hop : ∀ p, p < 16 → yop p = nI (o p) ∧ o p ≤ 14) (hi : i < 256) (hy : y < 16)
    (H : ∀ m, (∀ z, tq_B m z ↔ tq_B m0 z ∨ (z = y ∧ tq_B (yen i) y ∧ ∃ j z', ta_SR L o ycs i y j z' ∧ xd_S yen j z')) → J4 m (nI (y + 1))) :
    ∀ d v m, v + d = 16 → (∀ z, tq_B m z ↔ tq_B m0 z ∨ (z = y ∧ tq_B (yen i) y ∧ ∃ w, w < v ∧ (w = 0 ∨ o (i / 16) = 9) ∧ ∃ j z', ya_SV L (o (i / 16)) (ycs (i / 16)) (i / 16) (i % 16) y w j z' ∧ xd_S yen j z')) →
      wY_kept_13 post J4 (nI i) (nI y) yl yk ye yop ycs ylo yhi yall yla yfo yen yfi ytr (d + 1) m (nI v) := by
  have h16 : ¬ (16 : Int32) = 0 := by decide
  have hd : nI i / 16 = nI (i / 16) := pk_div (d := 16) (by omega) (by decide) (by decide)
  have hp : i / 16 < 16 := by omega
  have hx : i % 16 < 16 := Nat.mod_lt _ (by decide)
  have hpx : i / 16 * 16 + i % 16 = i := by omega
  intro d
  induction d with
  | zero =>
    intro v m hv h
    obtain rfl : v = 16 := by omega
    refine br_t (nI_le (a := 16) (b := 16) (Nat.le_refl _) (by decide)) (nm_r (nI_1 y) (H m fun z => ?_))
    rw [h]
    have sr := fun j z' => ya_SR (L := L) (o := o) (c := ycs) (p := i / 16) hx hy j z'
    rw [hpx] at sr
    constructor
    · rintro (q | ⟨q1, q2, w, hw, q3, j, z', q4, q5⟩)
      · exact Or.inl q
      · exact Or.inr ⟨q1, q2, j, z', (sr j z').mp ⟨w, hw, q3, q4⟩, q5⟩
    · rintro (q | ⟨q1, q2, j, z', q3, q4⟩)
      · exact Or.inl q
      · obtain ⟨w, hw, q5, q6⟩ := (sr j z').mpr q3
        exact Or.inr ⟨q1, q2, w, hw, q5, j, z', q6, q4⟩
  | succ d ih =>
    intro v m hv h
    rw [wY_kept_13]
    dsimp only
    rw [hd, nI_clamp (n := i) (by omega), nI_clamp (n := i / 16) (by omega)]
    refine br_f (nI_ge (b := 16) (by omega) (by decide)) ⟨vp_in_nI hi (by decide), ?_⟩
    have skip : (¬ (tq_B (yen i) y ∧ (v = 0 ∨ o (i / 16) = 9) ∧ ∃ j z', ya_SV L (o (i / 16)) (ycs (i / 16)) (i / 16) (i % 16) y v j z' ∧ xd_S yen j z')) → wY_kept_13 post J4 (nI i) (nI y) yl yk ye yop ycs ylo yhi yall yla yfo yen yfi ytr (d + 1) m (nI (v + 1)) := fun hn => by
      refine ih (v + 1) m (by omega) fun z => ?_
      rw [h]
      constructor
      · rintro (q | ⟨q1, q2, w, hw, q3⟩)
        · exact Or.inl q
        · exact Or.inr ⟨q1, q2, w, by omega, q3⟩
      · rintro (q | ⟨q1, q2, w, hw, q3⟩)
        · exact Or.inl q
        · by_cases ew : w = v
          · subst ew; exact absurd ⟨q2, q3⟩ hn
          · exact Or.inr ⟨q1, q2, w, by omega, q3⟩
    by_cases hb : tq_B (yen i) y
    · refine br_t ((tq_bit _ (by omega)).mpr hb) ?_
      have go : (v = 0 ∨ o (i / 16) = 9) → wY_kept_53 post J4 (wY_kept_13 post J4 (nI i) (nI y) yl yk ye yop ycs ylo yhi yall yla yfo yen yfi ytr (d + 1)) (nI i) m (nI y) (nI v) yl yk ye yop ycs ylo yhi yall yla yfo yen yfi ytr := fun h0 => by
        refine yc_53 post _ _ hl hL hop hi hy (by omega) (fun hn => skip fun ⟨_, _, j, z', q, _⟩ => hn j z' q) (fun j z hj hs => ih (v + 1) _ (by omega) fun z2 => ?_)
        rw [tq_or, yc_shl _ (by omega), h]
        constructor
        · rintro ((q | ⟨q1, q2, w, hw, q3⟩) | ⟨q1, q2⟩)
          · exact Or.inl q
          · exact Or.inr ⟨q1, q2, w, by omega, q3⟩
          · exact Or.inr ⟨q2, hb, v, by omega, h0, j, z, hs, hj, q1⟩
        · rintro (q | ⟨q1, q2, w, hw, q3, j', z', q4, q5⟩)
          · exact Or.inl (Or.inl q)
          · by_cases ew : w = v
            · subst ew
              obtain ⟨rfl, rfl⟩ := ya_sv_u hL hs q4
              exact Or.inr ⟨q5.2, q1⟩
            · exact Or.inl (Or.inr ⟨q1, q2, w, by omega, q3, j', z', q4, q5⟩)
      refine pk_eq v 0 (fun e0 => go (Or.inl e0)) (fun e0 => ⟨h16, vp_in_nI hp (by decide), ?_⟩) rfl rfl (by omega) (by decide)
      rw [(hop _ hp).1]
      refine pk_eq (o (i / 16)) 9 (fun e9 => go (Or.inr e9)) (fun e9 => nm_r (nI_1 v) (skip fun ⟨_, q, _⟩ => by omega)) rfl rfl (by have := (hop _ hp).2; omega) (by decide)
    · exact br_f (fun z => hb ((tq_bit _ (by omega)).mp z)) (nm_r (nI_1 v) (skip fun q => hb q.1))
theorem yc_4 (post : Int32 → Prop) {L i : Nat} {o : Nat → Nat} (hl : yl = nI L) (hL : L ≤ 16) (hop : ∀ p, p < 16 → yop p = nI (o p) ∧ o p ≤ 14) (hi : i < 256) (hf : ∀ y, tq_B (yen i) y → y < 16)
    (H : ∀ m, (∀ y, tq_B m y ↔ tq_B (yen i) y ∧ ∃ j z, ta_SR L o ycs i y j z ∧ xd_S yen j z) → post m) :
    ∀ d y m, y + d = 16 → (∀ z, tq_B m z ↔ z < y ∧ tq_B (yen i) z ∧ ∃ j w, ta_SR L o ycs i z j w ∧ xd_S yen j w) → wY_kept_4 post (nI i) yl yk ye yop ycs ylo yhi yall yla yfo yen yfi ytr (d + 1) m (nI y) := by
  intro d
  induction d with
  | zero =>
    intro y m hy h
    obtain rfl : y = 16 := by omega
    refine br_t (nI_le (a := 16) (b := 16) (Nat.le_refl _) (by decide)) (H m fun z => ?_)
    rw [h]
    exact ⟨fun q => q.2, fun q => ⟨hf z q.1, q⟩⟩
  | succ d ih =>
    intro y m hy h
    rw [wY_kept_4]
    refine br_f (nI_ge (b := 16) (by omega) (by decide)) ⟨17, yc_13 post _ (m0 := m) hl hL hop hi (by omega) (fun m' h' => ih (y + 1) m' (by omega) fun z => ?_) 16 0 m rfl (fun z => ⟨Or.inl, fun q => q.elim id (fun ⟨_, _, w, hw, _⟩ => by omega)⟩)⟩
    rw [h', h]
    constructor
    · rintro (q | ⟨rfl, q⟩)
      · exact ⟨by omega, q.2⟩
      · exact ⟨by omega, q⟩
    · rintro ⟨q1, q2⟩
      by_cases e : z = y
      · subst e; exact Or.inr ⟨rfl, q2⟩
      · exact Or.inl ⟨by omega, q2⟩
theorem yc_kept (post : Int32 → Prop) {L i : Nat} {o : Nat → Nat} (hl : yl = nI L) (hL : L ≤ 16) (hop : ∀ p, p < 16 → yop p = nI (o p) ∧ o p ≤ 14) (hi : i < 256) (hf : ∀ y, tq_B (yen i) y → y < 16)
    (H : ∀ m, (∀ y, tq_B m y ↔ tq_B (yen i) y ∧ ∃ j z, ta_SR L o ycs i y j z ∧ xd_S yen j z) → post m) : wpY_kept post (yl, yk, ye, yop, ycs, ylo, yhi, yall, yla, yfo, yen, yfi, ytr) (nI i) :=
  ⟨17, yc_4 post hl hL hop hi hf H 16 0 0 rfl fun z => ⟨fun q => absurd q (tq_0 z), fun q => by omega⟩⟩
theorem yc_46 (post : SY → Prop) (J : Int32 → Int32 → (Nat → Int32) → (Nat → Int32) → (Nat → Int32) → (Nat → Int32) → (Nat → Int32) → (Nat → Int32) → (Nat → Int32) → (Nat → Int32) → (Nat → Int32) → (Nat → Int32) → Prop) {L k : Nat} {o : Nat → Nat} {A : Nat → Nat → Prop} {al0 : Nat → Int32} (hl : yl = nI L) (hL : L ≤ 16) (hop : ∀ p, p < 16 → yop p = nI (o p) ∧ o p ≤ 14) (hA : ∀ i y, A i y → i < 256 ∧ y < 16)
    (H : ∀ lost en, xd_PI (ta_SR L o ycs) A al0 en lost (fun _ => True) → J lost (nI (k + 1)) yop ycs ylo yhi yall yla yfo en yfi ytr) :
    ∀ d i lost en, i + d = 256 → xd_PI (ta_SR L o ycs) A al0 en lost (fun j => j < i) → wY_goOnForEver_46 post J (nI k) yl yk ye (d + 1) lost (nI i) yop ycs ylo yhi yall yla yfo en yfi ytr := by
  intro d
  induction d with
  | zero =>
    intro i lost en hi h
    obtain rfl : i = 256 := by omega
    exact br_t (nI_le (a := 256) (b := 256) (Nat.le_refl _) (by decide)) (nm_r (nI_1 k) (H _ _ (xd_PI_c h fun j hj _ => hj)))
  | succ d ih =>
    intro i lost en hi h
    rw [wY_goOnForEver_46]
    have hb : vp_in (nI i) 256 := vp_in_nI (by omega) (by decide)
    refine br_f (nI_ge (b := 256) (by omega) (by decide)) (yc_kept _ hl hL hop (by omega) (fun y q => (hA i y (h.1.1 i y ⟨by omega, q⟩)).2) fun m hm => ⟨hb, ?_⟩)
    rw [nI_clamp (n := i) (by omega)]
    obtain ⟨g0, g1⟩ := xd_step hA h (r := i) (by omega) hm
    have cv : ∀ j, j < 256 → j < i + 1 → j < i ∨ j = i := fun j _ q => by omega
    refine br_c (fun e => nm_r (nI_1 i) (ih (i + 1) _ _ (by omega) ?_)) (fun e => ⟨hb, nm_e (nm_r (nI_1 i) (ih (i + 1) _ _ (by omega) (xd_PI_c (g1 e) cv)))⟩)
    have := xd_PI_c (g0 e) cv
    rw [e, xd_upd_self] at this
    exact this
theorem yc_31 (post : SY → Prop) {L : Nat} {o : Nat → Nat} {A : Nat → Nat → Prop} (hl : yl = nI L) (hL : L ≤ 16) (hop : ∀ p, p < 16 → yop p = nI (o p) ∧ o p ≤ 14) (hA : ∀ i y, A i y → i < 256 ∧ y < 16)
    (H : ∀ en, tl_BG (ta_SR L o ycs) A (xd_S en) ∧ tl_PF (ta_SR L o ycs) (xd_S en) → post (yl, yk, ye, yop, ycs, ylo, yhi, yall, yla, yfo, en, yfi, ytr)) :
    ∀ d k lost en, k + d = 4097 → xd_OI (ta_SR L o ycs) A k lost en → wY_goOnForEver_31 post yl yk ye (d + 1) lost (nI k) yop ycs ylo yhi yall yla yfo en yfi ytr := by
  intro d
  induction d with
  | zero =>
    intro k lost en hk h
    obtain rfl : k = 4097 := by omega
    exact br_t (nI_le (a := 4097) (b := 4097) (Nat.le_refl _) (by decide)) (H _ (xd_OI_e h (Or.inl (by decide))))
  | succ d ih =>
    intro k lost en hk h
    rw [wY_goOnForEver_31]
    refine br_f (nI_ge (b := 4097) (by omega) (by decide)) (br_c (fun e => H _ (xd_OI_e h (Or.inr e))) (fun e => ?_))
    rcases h.2 with ⟨q, _⟩ | ⟨_, hN⟩
    · exact absurd q e
    · exact ⟨257, yc_46 post _ (al0 := en) hl hL hop hA (fun lost' en' h' => ih (k + 1) _ _ (by omega) (xd_round hN h' fun _ _ => trivial)) 256 0 0 en rfl (xd_start h.1 fun j y q => by omega)⟩
theorem yc_2 (post : SY → Prop) {L : Nat} {o : Nat → Nat} {A : Nat → Nat → Prop} (hl : yl = nI L) (hL : L ≤ 16) (hop : ∀ p, p < 16 → yop p = nI (o p) ∧ o p ≤ 14) (hA : ∀ i y, A i y → i < 256 ∧ y < 16)
    (hv : ∀ i, i < 256 → ∀ y, tq_B (yall i) y ↔ A i y)
    (H : ∀ en, tl_BG (ta_SR L o ycs) A (xd_S en) ∧ tl_PF (ta_SR L o ycs) (xd_S en) → post (yl, yk, ye, yop, ycs, ylo, yhi, yall, yla, yfo, en, yfi, ytr)) :
    ∀ d i en, i + d = 256 → (∀ a, a < i → en a = yall a) → wY_goOnForEver_2 post yl yk ye (d + 1) (nI i) yop ycs ylo yhi yall yla yfo en yfi ytr := by
  intro d
  induction d with
  | zero =>
    intro i en hi h
    obtain rfl : i = 256 := by omega
    refine br_t (nI_le (a := 256) (b := 256) (Nat.le_refl _) (by decide)) ⟨4098, yc_31 post hl hL hop hA H 4097 0 1 en rfl (xd_OI_0 (fun i y z => (hA i y z).1) fun i hi y => ?_)⟩
    rw [h i hi]; exact hv i hi y
  | succ d ih =>
    intro i en hi h
    have hb : vp_in (nI i) 256 := vp_in_nI (by omega) (by decide)
    rw [wY_goOnForEver_2]
    dsimp only
    rw [nI_clamp (n := i) (by omega)]
    refine br_f (nI_ge (b := 256) (by omega) (by decide)) ⟨hb, hb, nm_e (nm_r (nI_1 i) (ih (i + 1) _ (by omega) (lt_s (fun a ha => ?_) pk_us)))⟩
    rw [pk_un (by omega)]; exact h a ha
theorem yc_ever (post : SY → Prop) {L : Nat} {o : Nat → Nat} {A : Nat → Nat → Prop} (hl : yl = nI L) (hL : L ≤ 16) (hop : ∀ p, p < 16 → yop p = nI (o p) ∧ o p ≤ 14) (hA : ∀ i y, A i y → i < 256 ∧ y < 16)
    (hv : ∀ i, i < 256 → ∀ y, tq_B (yall i) y ↔ A i y)
    (H : ∀ en, tl_BG (ta_SR L o ycs) A (xd_S en) ∧ tl_PF (ta_SR L o ycs) (xd_S en) → post (yl, yk, ye, yop, ycs, ylo, yhi, yall, yla, yfo, en, yfi, ytr)) : wpY_goOnForEver post (yl, yk, ye, yop, ycs, ylo, yhi, yall, yla, yfo, yen, yfi, ytr) :=
  ⟨257, yc_2 post hl hL hop hA hv H 256 0 yen rfl lt_0⟩
end
end
section
/-! the reference's workOut -/
/-- the number of trapping states of a set at an instruction -/
noncomputable def yd_T (o : Nat → Nat) (c : Nat → Int32) (S : Nat → Nat → Prop) (q : Nat) : Nat := tq_s (fun x => tq_r (fun y => S (q * 16 + x) y ∧ ta_TR (o q) (c q) x y)) 16
theorem yd_T_c {o : Nat → Nat} {c : Nat → Int32} {S S' : Nat → Nat → Prop} (h : ∀ i y, S i y ↔ S' i y) (q : Nat) : yd_T o c S q = yd_T o c S' q :=
  tq_s_c fun x _ => tq_r_c fun y _ => by rw [h]
theorem yd_T_0 {o : Nat → Nat} {c : Nat → Int32} {S : Nat → Nat → Prop} (h : ∀ i y, ¬ S i y) (q : Nat) : yd_T o c S q = 0 :=
  tq_s_0 fun x _ => tq_r_0 fun y _ z => h _ _ z.1
theorem yd_b_or {P Q : Prop} (h : P → ¬ Q) : tq_b P + tq_b Q = tq_b (P ∨ Q) := by
  rcases Classical.em P with hp | hp
  · rw [tq_bt hp, tq_bf (h hp), tq_bt (Or.inl hp)]
  · rw [tq_bf hp, Nat.zero_add]
    exact tq_bc ⟨Or.inr, fun z => z.elim (fun z => absurd z hp) id⟩
theorem yd_T_or {o : Nat → Nat} {c : Nat → Int32} {S S' : Nat → Nat → Prop} (h : ∀ i y, S i y → ¬ S' i y) (q : Nat) : yd_T o c S q + yd_T o c S' q = yd_T o c (fun i y => S i y ∨ S' i y) q := by
  unfold yd_T
  rw [← tq_s_pl]
  refine tq_s_c fun x _ => ?_
  unfold tq_r
  rw [← tq_s_pl]
  refine tq_s_c fun y _ => ?_
  rw [yd_b_or fun a b => h _ _ a.1 b.1]
  exact tq_bc ⟨fun z => z.elim (fun z => ⟨Or.inl z.1, z.2⟩) (fun z => ⟨Or.inr z.1, z.2⟩), fun z => z.1.elim (fun w => Or.inl ⟨w, z.2⟩) (fun w => Or.inr ⟨w, z.2⟩)⟩
theorem yd_n {o : Nat → Nat} {c F : Nat → Int32} {q : Nat} (hq : q < 16) : yb_n o c F q 256 0 = yd_T o c (fun i y => tq_B (F i) y) q := by
  unfold yb_n
  rw [tq_blk _ hq]
  show _ + (if 256 / 16 = q then 0 else 0) = _
  rw [if_neg (by omega), Nat.add_zero]
  unfold yd_T
  refine tq_s_c fun x hx => tq_r_c fun y _ => ?_
  unfold yb_T
  rw [show (q * 16 + x) / 16 = q by omega, show (q * 16 + x) % 16 = x by omega]
/-- what is known when all is worked out -/
def yd_K (L : Nat) (o : Nat → Nat) (c : Nat → Int32) (I : Nat → Nat → Prop) (all en fi : Nat → Int32) (e : Int32) (tr : Nat → Int32) : Prop :=
  xf_K L o c I all en fi e ∧ ∀ q, q < 16 → tr q = nI (yd_T o c (tl_R (ta_SR L o c) I) q)
section
variable {yl yk ye : Int32} {yop ycs ylo yhi yall yla yfo yen yfi ytr : Nat → Int32}
theorem yd_153 (post : SY → Prop) {L : Nat} {o : Nat → Nat} {I : Nat → Nat → Prop} (hl : yl = nI L) (hL : L ≤ 16) (hop : ∀ p, p < 16 → yop p = nI (o p) ∧ o p ≤ 14) (hI : ∀ i y, I i y → i < L * 16 ∧ y < 16)
    (H : ∀ e all la fo en fi tr, yd_K L o ycs I all en fi e tr → post (yl, yk, e, yop, ycs, ylo, yhi, all, la, fo, en, fi, tr)) :
    ∀ d kk s e all la fo en fi tr, kk + d = 4097 → xf_V L o ycs I kk all la fi e s → (∀ q, q < 16 → tr q = nI (yd_T o ycs (tl_H (ta_SR L o ycs) I kk) q)) →
      wY_workOut_153 post (d + 1) s (nI (kk + 1)) yl yk e yop ycs ylo yhi all la fo en fi tr := by
  have fin : ∀ kk s e all la fo en fi tr, xf_V L o ycs I kk all la fi e s → (∀ q, q < 16 → tr q = nI (yd_T o ycs (tl_H (ta_SR L o ycs) I kk) q)) → (∀ i y, ¬ tl_F (ta_SR L o ycs) I kk i y) → wY_workOut_180 post yl yk e yop ycs ylo yhi all la fo en fi tr := by
    intro kk s e all la fo en fi tr hV hT hz
    obtain ⟨k1, k2⟩ := xf_VK hV hz
    unfold wY_workOut_180
    refine yc_ever _ hl hL hop (fun i y z => ?_) k1 fun en' h => H _ _ _ _ _ _ _ ⟨k2 en' h, fun q hq => ?_⟩
    · have := xf_domR hI i y z
      omega
    · rw [hT q hq, yd_T_c (tl_RH hz)]
  intro d
  induction d with
  | zero =>
    intro kk s e all la fo en fi tr hk hV hT
    obtain rfl : kk = 4097 := by omega
    exact br_t (nI_lt (a := 4097) (b := 4098) (by decide) (by decide)) (fin _ _ _ _ _ _ _ _ _ hV hT fun i y => tl_4096 (fun k i y z => by have := xf_dom hI k i y z; omega) (by decide) i y)
  | succ d ih =>
    intro kk s e all la fo en fi tr hk hV hT
    rw [wY_workOut_153]
    refine br_f (nI_nlt (a := 4097) (by omega) (by decide)) (br_c (fun q => fin _ _ _ _ _ _ _ _ _ hV hT ?_) (fun q => ?_))
    · rcases hV.2.2.2.2.2 with ⟨_, z⟩ | ⟨z, _⟩
      · exact z
      · rw [z] at q; exact absurd q (by decide)
    · have hla := hV.2.1
      refine yb_round _ (E := ∃ i y, tl_H (ta_SR L o ycs) I kk i y ∧ ta_EN L o ycs i y) (T := yd_T o ycs (tl_H (ta_SR L o ycs) I kk)) hl hL hop (fun i hi y z => (xf_dom hI kk i y ((hla i hi y).mp z)).2) hV.2.2.2.1 hV.2.2.2.2.1 hT fun e' fo' tr' hR => ?_
      obtain ⟨r1, r2, r3, r4⟩ := hR
      refine yb_take _ (lv := nI (kk + 1)) (tl_m5 (by omega)) fun s' all' la' fi' h1 hs hF => ?_
      have conv : ∀ (P : Nat → Nat → Prop), (∃ i y, yb_B 256 0 i y ∧ tq_B (la i) y ∧ P i y) ↔ ∃ i y, tl_F (ta_SR L o ycs) I kk i y ∧ P i y := fun P => by
        constructor
        · rintro ⟨i, y, hi, q1, q2⟩
          unfold yb_B at hi
          exact ⟨i, y, (hla i (by omega) y).mp q1, q2⟩
        · rintro ⟨i, y, q1, q2⟩
          have := xf_dom hI kk i y q1
          exact ⟨i, y, by unfold yb_B; omega, (hla i (by omega) y).mpr q1, q2⟩
      have ela : ∀ i, i < 256 → la' i = fo' i := fun i hi => (h1 i hi).1
      refine nm_r (nI_1 (kk + 1)) (ih (kk + 1) _ _ _ _ _ _ _ _ (by omega) (xf_Vs hL hI (by omega) hV (fun j hj z => ?_) (fun i hi y => ?_) ?_ ?_ r2 ?_) fun q hq => ?_)
      · rw [ela j hj, r1 j hj, conv (fun i y => ta_SR L o ycs i y j z)]
      · rw [(h1 i hi).2, tq_or, ela i hi]
      · rcases hs with ⟨a, b⟩ | ⟨a, i, hi, b⟩
        · exact Or.inl ⟨a, fun i hi => by rw [ela i hi]; exact b i hi⟩
        · exact Or.inr ⟨a, i, hi, by rw [ela i hi]; exact b⟩
      · refine xc_F_c hF fun p hp => ?_
        constructor
        · rintro ⟨i, hi, a, b⟩; exact ⟨i, hi, a, by rw [ela i hi]; exact b⟩
        · rintro ⟨i, hi, a, b⟩; exact ⟨i, hi, a, by rw [← ela i hi]; exact b⟩
      · rw [r3, conv (fun i y => ta_EN L o ycs i y), hV.2.2.2.2.1]
      · rw [r4 q hq, yd_n hq]
        have e1 : yd_T o ycs (fun i y => tq_B (la i) y) q = yd_T o ycs (tl_F (ta_SR L o ycs) I kk) q := tq_s_c fun x hx => tq_r_c fun y _ => and_congr (hla _ (by omega) y) Iff.rfl
        rw [e1, yd_T_or fun i y a b => tl_dis b a, yd_T_c fun i y => (tl_Hs kk i y).symm]
theorem yd_83e (post : SY → Prop) {L : Nat} {o : Nat → Nat} {I : Nat → Nat → Prop} (hl : yl = nI L) (hL : L ≤ 16) (hop : ∀ p, p < 16 → yop p = nI (o p) ∧ o p ≤ 14) (hI : ∀ i y, I i y → i < L * 16 ∧ y < 16)
    (H : ∀ e all la fo en fi tr, yd_K L o ycs I all en fi e tr → post (yl, yk, e, yop, ycs, ylo, yhi, all, la, fo, en, fi, tr))
    (he : ye = 0) (h0 : ∀ i, i < 256 → yall i = 0) (h5 : ∀ p, p < 16 → yfi p = -5 ∧ ytr p = 0) (hc : ∀ i, i < 256 → ∀ y, tq_B (yfo i) y ↔ I i y) :
    wpY_take (fun r_6 u => match u with | (yl, yk, ye, yop, ycs, ylo, yhi, yall, yla, yfo, yen, yfi, ytr) => ∃ n153 : Nat, wY_workOut_153 post n153 r_6 1 yl yk ye yop ycs ylo yhi yall yla yfo yen yfi ytr) (yl, yk, ye, yop, ycs, ylo, yhi, yall, yla, yfo, yen, yfi, ytr) 0 := by
  subst he
  refine yb_take _ (lv := 0) (by decide) fun s all la fi h1 hs hF => ⟨4098, ?_⟩
  have f1 : ∀ i, i < 256 → ∀ y, tq_B (la i) y ↔ I i y := fun i hi y => by rw [(h1 i hi).1, hc i hi]
  refine yd_153 post hl hL hop hI H 4097 0 s 0 all la yfo yen fi ytr rfl (xf_V0 hL hI f1 (fun i hi y => ?_) ?_ (fun p hp => (h5 p hp).1) (xc_F_c hF fun p hp => ?_)) fun q hq => ?_
  · rw [(h1 i hi).2, tq_or, hc i hi, h0 i hi]
    exact ⟨fun z => z.elim (fun z => absurd z (tq_0 y)) id, Or.inr⟩
  · rcases hs with ⟨a, b⟩ | ⟨a, i, hi, b⟩
    · exact Or.inl ⟨a, fun i hi => by rw [(h1 i hi).1]; exact b i hi⟩
    · exact Or.inr ⟨a, i, hi, by rw [(h1 i hi).1]; exact b⟩
  · constructor
    · rintro ⟨i, hi, a, b⟩; exact ⟨i, hi, a, by rw [(h1 i hi).1]; exact b⟩
    · rintro ⟨i, hi, a, b⟩; exact ⟨i, hi, a, by rw [← (h1 i hi).1]; exact b⟩
  · rw [(h5 q hq).2, yd_T_0 fun i y => tl_H0 i y]; rfl
/-- the starting states put in before (x, y) -/
def yd_J (L a c d x y : Nat) (fo : Nat → Int32) : Prop := ∀ i, i < 256 → ∀ z, tq_B (fo i) z ↔ 0 < L ∧ a ≤ i ∧ c ≤ z ∧ ((i < x ∧ z ≤ d) ∨ (i = x ∧ z < y))
theorem yd_100 (post : SY → Prop) (J : Int32 → (Nat → Int32) → (Nat → Int32) → (Nat → Int32) → (Nat → Int32) → (Nat → Int32) → (Nat → Int32) → (Nat → Int32) → (Nat → Int32) → (Nat → Int32) → (Nat → Int32) → Prop) {L a c d x : Nat} (hl : yl = nI L) (hL : L ≤ 16) (hx : x ≤ 15) (ha : a ≤ x) (hd : d ≤ 15) (hhi1 : yhi 1 = nI d)
    (H : ∀ fo, yd_J L a c d (x + 1) c fo → J (nI (x + 1)) yop ycs ylo yhi yall yla fo yen yfi ytr) (hcd : c ≤ d) :
    ∀ n y fo, y + n = d + 1 → c ≤ y → yd_J L a c d x y fo → wY_workOut_100 post J (nI x) yl yk ye (n + 1) (nI y) yop ycs ylo yhi yall yla fo yen yfi ytr := by
  intro n
  induction n with
  | zero =>
    intro y fo hy hc h
    obtain rfl : y = d + 1 := by omega
    rw [wY_workOut_100]
    dsimp only
    rw [hhi1]
    refine br_t (nI_lt (by omega) (by omega)) (nm_r (nI_1 x) (H fo fun i hi z => ?_))
    rw [h i hi]; omega
  | succ n ih =>
    intro y fo hy hc h
    rw [wY_workOut_100]
    dsimp only
    rw [hhi1, nI_clamp (n := x) (by omega)]
    have hb : vp_in (nI x) 256 := vp_in_nI (by omega) (by decide)
    refine br_f (nI_nlt (by omega) (by omega)) (pk_le L 0 (fun z => nm_r (nI_1 y) (ih (y + 1) fo (by omega) (by omega) fun i hi z => ?_)) (fun z => ⟨hb, hb, nm_e (nm_r (nI_1 y) (ih (y + 1) _ (by omega) (by omega) fun i hi z => ?_))⟩) hl rfl (by omega) (by decide))
    · rw [h i hi]; omega
    · by_cases e : i = x
      · subst e
        rw [pk_us, tq_or, tq_one (by omega), h i hi]; omega
      · rw [pk_un e, h i hi]; omega
theorem yd_83 (post : SY → Prop) {L a b c d : Nat} {o : Nat → Nat} (hl : yl = nI L) (hL : L ≤ 16) (hop : ∀ p, p < 16 → yop p = nI (o p) ∧ o p ≤ 14) (hb : b ≤ 15) (hd : d ≤ 15) (hhi : yhi 0 = nI b) (hlo1 : ylo 1 = nI c) (hhi1 : yhi 1 = nI d) (hcd : c ≤ d)
    (H : ∀ e all la fo en fi tr, yd_K L o ycs (xf_I L a b c d) all en fi e tr → post (yl, yk, e, yop, ycs, ylo, yhi, all, la, fo, en, fi, tr))
    (he : ye = 0) (h0 : ∀ i, i < 256 → yall i = 0) (h5 : ∀ p, p < 16 → yfi p = -5 ∧ ytr p = 0) :
    ∀ n x fo, x + n = b + 1 → a ≤ x → yd_J L a c d x c fo → wY_workOut_83 post yl yk ye (n + 1) (nI x) yop ycs ylo yhi yall yla fo yen yfi ytr := by
  intro n
  induction n with
  | zero =>
    intro x fo hx ha h
    obtain rfl : x = b + 1 := by omega
    rw [wY_workOut_83]
    dsimp only
    rw [hhi]
    refine br_t (nI_lt (by omega) (by omega)) (yd_83e post hl hL hop (xf_I_dom hb hd) H he h0 h5 fun i hi y => ?_)
    rw [h i hi]; unfold xf_I; omega
  | succ n ih =>
    intro x fo hx ha h
    rw [wY_workOut_83]
    dsimp only
    rw [hhi]
    refine br_f (nI_nlt (by omega) (by omega)) (nm_r hlo1 ⟨d + 1 - c + 1, yd_100 post _ hl hL (by omega) ha hd hhi1 (fun fo' h' => ih (x + 1) fo' (by omega) (by omega) h') hcd (d + 1 - c) c fo (by omega) (Nat.le_refl _) h⟩)
theorem yd_49 (post : SY → Prop) {L a b c d : Nat} {o : Nat → Nat} (hl : yl = nI L) (hL : L ≤ 16) (hop : ∀ p, p < 16 → yop p = nI (o p) ∧ o p ≤ 14) (hb : b ≤ 15) (hd : d ≤ 15) (hlo : ylo 0 = nI a) (hhi : yhi 0 = nI b) (hlo1 : ylo 1 = nI c) (hhi1 : yhi 1 = nI d) (hab : a ≤ b) (hcd : c ≤ d)
    (H : ∀ e all la fo en fi tr, yd_K L o ycs (xf_I L a b c d) all en fi e tr → post (yl, yk, e, yop, ycs, ylo, yhi, all, la, fo, en, fi, tr))
    (he : ye = 0) (h0 : ∀ i, i < 256 → yall i = 0 ∧ yfo i = 0) :
    ∀ n p fi tr, p + n = 16 → (∀ q, q < p → fi q = -5 ∧ tr q = 0) → wY_workOut_49 post yl yk ye (n + 1) (nI p) yop ycs ylo yhi yall yla yfo yen fi tr := by
  intro n
  induction n with
  | zero =>
    intro p fi tr hp h
    obtain rfl : p = 16 := by omega
    refine br_t (nI_le (a := 16) (b := 16) (Nat.le_refl _) (by decide)) (nm_r hlo ⟨b + 1 - a + 1, yd_83 post (a := a) hl hL hop hb hd hhi hlo1 hhi1 hcd H he (fun i hi => (h0 i hi).1) h (b + 1 - a) a yfo (by omega) (Nat.le_refl _) fun i hi z => ?_⟩)
    rw [(h0 i hi).2]
    exact ⟨fun q => absurd q (tq_0 z), fun q => by omega⟩
  | succ n ih =>
    intro p fi tr hp h
    have hv : vp_in (nI p) 16 := vp_in_nI (by omega) (by decide)
    rw [wY_workOut_49]
    dsimp only
    rw [nI_clamp (n := p) (by omega)]
    refine br_f (nI_ge (b := 16) (by omega) (by decide)) ⟨hv, nm_e ⟨hv, nm_e (nm_r (nI_1 p) (ih (p + 1) _ _ (by omega) (lt_s (fun q hq => ?_) ⟨pk_us, pk_us⟩)))⟩⟩
    rw [pk_un (by omega), pk_un (by omega)]; exact h q hq
theorem yd_20 (post : SY → Prop) {L a b c d : Nat} {o : Nat → Nat} (hl : yl = nI L) (hL : L ≤ 16) (hop : ∀ p, p < 16 → yop p = nI (o p) ∧ o p ≤ 14) (hb : b ≤ 15) (hd : d ≤ 15) (hlo : ylo 0 = nI a) (hhi : yhi 0 = nI b) (hlo1 : ylo 1 = nI c) (hhi1 : yhi 1 = nI d) (hab : a ≤ b) (hcd : c ≤ d)
    (H : ∀ e all la fo en fi tr, yd_K L o ycs (xf_I L a b c d) all en fi e tr → post (yl, yk, e, yop, ycs, ylo, yhi, all, la, fo, en, fi, tr))
    (he : ye = 0) :
    ∀ n i all fo, i + n = 256 → (∀ q, q < i → all q = 0 ∧ fo q = 0) → wY_workOut_20 post yl yk ye (n + 1) (nI i) yop ycs ylo yhi all yla fo yen yfi ytr := by
  intro n
  induction n with
  | zero =>
    intro i all fo hi h
    obtain rfl : i = 256 := by omega
    exact br_t (nI_le (a := 256) (b := 256) (Nat.le_refl _) (by decide)) ⟨17, yd_49 post hl hL hop hb hd hlo hhi hlo1 hhi1 hab hcd H he h 16 0 yfi ytr rfl lt_0⟩
  | succ n ih =>
    intro i all fo hi h
    have hv' : vp_in (nI i) 256 := vp_in_nI (by omega) (by decide)
    rw [wY_workOut_20]
    dsimp only
    rw [nI_clamp (n := i) (by omega)]
    refine br_f (nI_ge (b := 256) (by omega) (by decide)) ⟨hv', nm_e ⟨hv', nm_e (nm_r (nI_1 i) (ih (i + 1) _ _ (by omega) (lt_s (fun q hq => ?_) ⟨pk_us, pk_us⟩)))⟩⟩
    rw [pk_un (by omega), pk_un (by omega)]; exact h q hq
/-- workOut, from a state that is known or not -/
theorem yd_work (post : SY → Prop) {L a b c d : Nat} {o : Nat → Nat} (hl : yl = nI L) (hL : L ≤ 16) (hop : ∀ p, p < 16 → yop p = nI (o p) ∧ o p ≤ 14) (hb : b ≤ 15) (hd : d ≤ 15) (hlo : ylo 0 = nI a) (hhi : yhi 0 = nI b) (hlo1 : ylo 1 = nI c) (hhi1 : yhi 1 = nI d) (hab : a ≤ b) (hcd : c ≤ d)
    (hr : yk = 0 ∨ (yk = 1 ∧ yd_K L o ycs (xf_I L a b c d) yall yen yfi ye ytr))
    (H : ∀ e all la fo en fi tr, yd_K L o ycs (xf_I L a b c d) all en fi e tr → post (yl, 1, e, yop, ycs, ylo, yhi, all, la, fo, en, fi, tr)) : wpY_workOut post (yl, yk, ye, yop, ycs, ylo, yhi, yall, yla, yfo, yen, yfi, ytr) := by
  rcases hr with rfl | ⟨rfl, hK⟩
  · exact br_t rfl ⟨257, yd_20 post hl hL hop hb hd hlo hhi hlo1 hhi1 hab hcd H rfl 256 0 yall yfo rfl lt_0⟩
  · exact br_f (by decide) (H _ _ _ _ _ _ _ hK)
end
end
section
/-! the component's questions -/
def zz_H (L a b c d : Nat) (o : Nat → Nat) (op lo hi : Nat → Int32) : Prop :=
  L ≤ 16 ∧ (∀ p, p < 16 → op p = nI (o p) ∧ o p ≤ 14) ∧ b ≤ 15 ∧ d ≤ 15 ∧ lo 0 = nI a ∧ hi 0 = nI b ∧ lo 1 = nI c ∧ hi 1 = nI d ∧ a ≤ b ∧ c ≤ d
theorem zx_o4 (post : Int32 → Prop) (r : Int32) (H : post (nI (tq_r (fun y => tq_B r y)))) : ∀ d y, y + d = 16 → wX_ones_4 post r (d + 1) (nI (tq_s (fun y => tq_b (tq_B r y)) y)) (nI y) := by
  intro d
  induction d with
  | zero =>
    intro y hy
    obtain rfl : y = 16 := by omega
    exact br_t (nI_le (a := 16) (b := 16) (Nat.le_refl _) (by decide)) H
  | succ d ih =>
    intro y hy
    rw [wX_ones_4]
    exact br_f (nI_ge (b := 16) (by omega) (by decide)) (nm_r (by rw [tq_bitN r (by omega), nI_add]; rfl) (nm_r (nI_1 y) (ih (y + 1) (by omega))))
theorem zx_ones (post : Int32 → Prop) (r : Int32) (H : post (nI (tq_r (fun y => tq_B r y)))) : wpX_ones post r := ⟨17, zx_o4 post r H 16 0 rfl⟩
/-- the same set on both sides: sums over rows -/
theorem zz_rows {hv : Nat → Int32} {S : Nat → Nat → Prop} (h : ∀ i, i < 256 → ∀ y, tq_B (hv i) y ↔ S i y) {q : Nat} (hq : q < 16) : tq_s (fun x => tq_r (fun y => tq_B (hv (q * 16 + x)) y)) 16 = tq_s (fun x => tq_r (fun y => S (q * 16 + x) y)) 16 :=
  tq_s_c fun x hx => tq_r_c fun y _ => h (q * 16 + x) (by omega) y
section
variable {xl xr xe : Int32} {xop xar xlo xhi xhv xfr xcm xal xfi xin xnx xaw xtp : Nat → Int32}
theorem zx_prep (post : SX → Prop) {L a b c d : Nat} {o : Nat → Nat} (h : zz_H L a b c d o xop xlo xhi) (hl : xl = nI L) (hr : xr = 0 ∨ (xr = 1 ∧ xf_K L o xar (xf_I L a b c d) xhv xal xfi xe))
    (H : ∀ e hv fr cm al fi ii nx aw tp, xf_K L o xar (xf_I L a b c d) hv al fi e → post (xl, 1, e, xop, xar, xlo, xhi, hv, fr, cm, al, fi, ii, nx, aw, tp)) : wpX_prepare post (xl, xr, xe, xop, xar, xlo, xhi, xhv, xfr, xcm, xal, xfi, xin, xnx, xaw, xtp) :=
  xg_prep post hl h.1 h.2.1 h.2.2.1 h.2.2.2.1 h.2.2.2.2.1 h.2.2.2.2.2.1 h.2.2.2.2.2.2.1 h.2.2.2.2.2.2.2.1 h.2.2.2.2.2.2.2.2.1 h.2.2.2.2.2.2.2.2.2 hr H
theorem zx_s19 (post : Int32 → SX → Prop) {q : Nat} (hq : q < 16) (H : post (nI (tq_s (fun x => tq_r (fun y => tq_B (xhv (q * 16 + x)) y)) 16)) (xl, xr, xe, xop, xar, xlo, xhi, xhv, xfr, xcm, xal, xfi, xin, xnx, xaw, xtp)) :
    ∀ d x, x + d = 16 → wX_states_19 post (nI q) xl xr xe xop xar xlo xhi xhv xfr xcm xal xfi xin xnx xaw xtp (d + 1) (nI (tq_s (fun x => tq_r (fun y => tq_B (xhv (q * 16 + x)) y)) x)) (nI x) := by
  intro d
  induction d with
  | zero =>
    intro x hx
    obtain rfl : x = 16 := by omega
    exact br_t (nI_le (a := 16) (b := 16) (Nat.le_refl _) (by decide)) H
  | succ d ih =>
    intro x hx
    rw [wX_states_19]
    dsimp only
    rw [tn_ix, nI_clamp (n := q * 16 + x) (by omega)]
    exact br_f (nI_ge (b := 16) (by omega) (by decide)) ⟨vp_in_nI (by omega) (by decide), zx_ones _ _ (nm_r (nI_add _ _) (nm_r (nI_1 x) (ih (x + 1) (by omega))))⟩
theorem zx_states (post : Int32 → SX → Prop) {L a b c d : Nat} {o : Nat → Nat} (p : Int32) (h : zz_H L a b c d o xop xlo xhi) (hl : xl = nI L) (hr : xr = 0 ∨ (xr = 1 ∧ xf_K L o xar (xf_I L a b c d) xhv xal xfi xe))
    (H1 : (¬ ∃ k, k < L ∧ p = nI k) → post (-3) (xl, xr, xe, xop, xar, xlo, xhi, xhv, xfr, xcm, xal, xfi, xin, xnx, xaw, xtp))
    (H2 : ∀ q, q < L → p = nI q → ∀ e hv fr cm al fi ii nx aw tp, xf_K L o xar (xf_I L a b c d) hv al fi e → post (nI (tq_s (fun x => tq_r (fun y => tl_R (ta_SR L o xar) (xf_I L a b c d) (q * 16 + x) y)) 16)) (xl, 1, e, xop, xar, xlo, xhi, hv, fr, cm, al, fi, ii, nx, aw, tp)) :
    wpX_states post (xl, xr, xe, xop, xar, xlo, xhi, xhv, xfr, xcm, xal, xfi, xin, xnx, xaw, xtp) p := by
  have hL := h.1
  unfold wpX_states
  dsimp only
  refine xb_no _ hl hL p (fun q hq e => br_t rfl ?_) (fun hn => br_f (by decide) (H1 hn))
  refine zx_prep _ h hl hr fun e' hv fr cm al fi ii nx aw tp hK => ⟨17, ?_⟩
  have g := H2 q hq e e' hv fr cm al fi ii nx aw tp hK
  rw [← zz_rows hK.1 (by omega)] at g
  rw [e]
  exact zx_s19 post (by omega) g 16 0 rfl
theorem zx_possible (post : Int32 → SX → Prop) {L a b c d : Nat} {o : Nat → Nat} (p v2 v3 : Int32) (h : zz_H L a b c d o xop xlo xhi) (hl : xl = nI L) (hr : xr = 0 ∨ (xr = 1 ∧ xf_K L o xar (xf_I L a b c d) xhv xal xfi xe))
    (H1 : (¬ ∃ k x y, k < L ∧ p = nI k ∧ x < 16 ∧ v2 = nI x ∧ y < 16 ∧ v3 = nI y) → post 0 (xl, xr, xe, xop, xar, xlo, xhi, xhv, xfr, xcm, xal, xfi, xin, xnx, xaw, xtp))
    (H2 : ∀ q x y, q < L → p = nI q → x < 16 → v2 = nI x → y < 16 → v3 = nI y → ∀ e hv fr cm al fi ii nx aw tp, xf_K L o xar (xf_I L a b c d) hv al fi e → post (nI (tq_b (tl_R (ta_SR L o xar) (xf_I L a b c d) (q * 16 + x) y))) (xl, 1, e, xop, xar, xlo, xhi, hv, fr, cm, al, fi, ii, nx, aw, tp)) :
    wpX_possible post (xl, xr, xe, xop, xar, xlo, xhi, xhv, xfr, xcm, xal, xfi, xin, xnx, xaw, xtp) p v2 v3 := by
  have hL := h.1
  unfold wpX_possible
  dsimp only
  refine xb_no _ hl hL p (fun q hq e => br_t rfl ?_) (fun hn => br_f (by decide) (H1 fun ⟨k, _, _, hk, e, _⟩ => hn ⟨k, hk, e⟩))
  refine br_c (fun z => H1 fun ⟨_, x, _, _, _, hx, e, _⟩ => ?_) (fun z2 => br_c (fun z => H1 fun ⟨_, x, _, _, _, hx, e, _⟩ => ?_) (fun z3 => br_c (fun z => H1 fun ⟨_, _, y, _, _, _, _, hy, e⟩ => ?_) (fun z4 => br_c (fun z5 => ?_) (fun z => H1 fun ⟨_, _, y, _, _, _, _, hy, e⟩ => ?_))))
  · rw [e] at z; exact nI_pos (by omega) z
  · rw [e] at z; exact nI_nlt (a := 15) (by omega) (by decide) z
  · rw [e] at z; exact nI_pos (by omega) z
  · obtain ⟨x, hx, rfl⟩ := nI_of2 (n := 15) (by decide) z2 (Int32.not_lt.mp z3)
    obtain ⟨y, hy, rfl⟩ := nI_of2 (n := 15) (by decide) z4 z5
    refine zx_prep _ h hl hr fun e' hv fr cm al fi ii nx aw tp hK => ?_
    have g := H2 q x y hq e (by omega) rfl (by omega) rfl e' hv fr cm al fi ii nx aw tp hK
    rw [← tq_bc (hK.1 (q * 16 + x) (by omega) y)] at g
    rw [e, tn_ix, nI_clamp (n := q * 16 + x) (by omega)]
    refine ⟨vp_in_nI (by omega) (by decide), br_c (fun w => ?_) (fun w => ?_)⟩
    · rw [tq_bt ((tq_bit _ (by omega)).mp w)] at g; exact g
    · rw [tq_bf fun w' => w ((tq_bit _ (by omega)).mpr w')] at g; exact g
  · rw [e] at z; exact z (nI_le (b := 15) (by omega) (by decide))
theorem zx_v32 (post : Int32 → SX → Prop) {q : Nat} {w : Int32} (hq : q < 16) (hf : ∀ i, i < 256 → ∀ y, tq_B (xhv i) y → y < 16)
    (H : ∀ m, (∀ z, tq_B m z ↔ (w = 1 ∧ ∃ x, x < 16 ∧ tq_B (xhv (q * 16 + x)) z) ∨ (¬ w = 1 ∧ z < 16 ∧ ∃ y, tq_B (xhv (q * 16 + z)) y)) → post m (xl, xr, xe, xop, xar, xlo, xhi, xhv, xfr, xcm, xal, xfi, xin, xnx, xaw, xtp)) :
    ∀ d x m, x + d = 16 → (∀ z, tq_B m z ↔ (w = 1 ∧ ∃ a, a < x ∧ tq_B (xhv (q * 16 + a)) z) ∨ (¬ w = 1 ∧ z < x ∧ ∃ y, tq_B (xhv (q * 16 + z)) y)) → wX_values_32 post (nI q) w xl xr xe xop xar xlo xhi xhv xfr xcm xal xfi xin xnx xaw xtp (d + 1) m (nI x) := by
  intro d
  induction d with
  | zero =>
    intro x m hx h
    obtain rfl : x = 16 := by omega
    exact br_t (nI_le (a := 16) (b := 16) (Nat.le_refl _) (by decide)) (H m h)
  | succ d ih =>
    intro x m hx h
    rw [wX_values_32]
    dsimp only
    rw [tn_ix, nI_clamp (n := q * 16 + x) (by omega)]
    refine br_f (nI_ge (b := 16) (by omega) (by decide)) ⟨vp_in_nI (by omega) (by decide), nm_e (br_c (fun w1 => nm_e (nm_r (nI_1 x) (ih (x + 1) _ (by omega) fun z => ?_))) (fun w1 => br_c (fun w2 => nm_r (nI_1 x) (ih (x + 1) _ (by omega) fun z => ?_)) (fun w2 => nm_e (nm_r (nI_1 x) (ih (x + 1) _ (by omega) fun z => ?_)))))⟩
    · rw [tq_or, h]
      constructor
      · rintro ((⟨_, a, ha, q1⟩ | q1) | q1)
        · exact Or.inl ⟨w1, a, by omega, q1⟩
        · exact absurd w1 q1.1
        · exact Or.inl ⟨w1, x, by omega, q1⟩
      · rintro (⟨_, a, ha, q1⟩ | q1)
        · by_cases e : a = x
          · subst e; exact Or.inr q1
          · exact Or.inl (Or.inl ⟨w1, a, by omega, q1⟩)
        · exact absurd w1 q1.1
    · rw [h]
      constructor
      · rintro (q1 | ⟨_, q1, q2⟩)
        · exact absurd q1.1 w1
        · exact Or.inr ⟨w1, by omega, q2⟩
      · rintro (q1 | ⟨_, q1, y, q2⟩)
        · exact absurd q1.1 w1
        · by_cases e : z = x
          · subst e; exact absurd q2 (by rw [w2]; exact tq_0 y)
          · exact Or.inr ⟨w1, by omega, y, q2⟩
    · rw [tq_or, tq_one (by omega), h]
      constructor
      · rintro ((q1 | ⟨_, q1, q2⟩) | q1)
        · exact absurd q1.1 w1
        · exact Or.inr ⟨w1, by omega, q2⟩
        · subst q1; exact Or.inr ⟨w1, by omega, tq_nz.mp w2⟩
      · rintro (q1 | ⟨_, q1, q2⟩)
        · exact absurd q1.1 w1
        · by_cases e : z = x
          · exact Or.inr e
          · exact Or.inl (Or.inr ⟨w1, by omega, q2⟩)
theorem zx_values (post : Int32 → SX → Prop) {L a b c d : Nat} {o : Nat → Nat} (p w : Int32) (h : zz_H L a b c d o xop xlo xhi) (hl : xl = nI L) (hr : xr = 0 ∨ (xr = 1 ∧ xf_K L o xar (xf_I L a b c d) xhv xal xfi xe))
    (H1 : (¬ ∃ k, k < L ∧ p = nI k) → post (-3) (xl, xr, xe, xop, xar, xlo, xhi, xhv, xfr, xcm, xal, xfi, xin, xnx, xaw, xtp)) (H3 : (∃ k, k < L ∧ p = nI k) → ¬ (w = 0 ∨ w = 1) → post (-4) (xl, xr, xe, xop, xar, xlo, xhi, xhv, xfr, xcm, xal, xfi, xin, xnx, xaw, xtp))
    (H2 : ∀ q, q < L → p = nI q → (w = 0 ∨ w = 1) → ∀ m e hv fr cm al fi ii nx aw tp, xf_K L o xar (xf_I L a b c d) hv al fi e →
      (∀ z, tq_B m z ↔ (w = 1 ∧ ∃ x, x < 16 ∧ tl_R (ta_SR L o xar) (xf_I L a b c d) (q * 16 + x) z) ∨ (¬ w = 1 ∧ z < 16 ∧ ∃ y, tl_R (ta_SR L o xar) (xf_I L a b c d) (q * 16 + z) y)) →
      post m (xl, 1, e, xop, xar, xlo, xhi, hv, fr, cm, al, fi, ii, nx, aw, tp)) :
    wpX_values post (xl, xr, xe, xop, xar, xlo, xhi, xhv, xfr, xcm, xal, xfi, xin, xnx, xaw, xtp) p w := by
  have hL := h.1
  unfold wpX_values
  dsimp only
  refine xb_no _ hl hL p (fun q hq e => br_t rfl ?_) (fun hn => br_f (by decide) (H1 hn))
  refine br_c (fun z => H3 ⟨q, hq, e⟩ fun hw => ?_) (fun z => br_c (fun z2 => ?_) (fun z2 => H3 ⟨q, hq, e⟩ fun hw => ?_))
  · rcases hw with rfl | rfl <;> exact absurd z (by decide)
  · obtain ⟨j, hj, ew⟩ := nI_of2 (n := 1) (by decide) z z2
    have hw : w = 0 ∨ w = 1 := by
      obtain rfl | rfl : j = 0 ∨ j = 1 := by omega
      · exact Or.inl ew
      · exact Or.inr ew
    refine zx_prep _ h hl hr fun e' hv fr cm al fi ii nx aw tp hK => ⟨17, ?_⟩
    rw [e]
    have hR := fun x (hx : x < 16) y => hK.1 (q * 16 + x) (by omega) y
    refine zx_v32 post (by omega) (fun i hi y t => (xf_domR (xf_I_dom h.2.2.1 h.2.2.2.1) i y ((hK.1 i hi y).mp t)).2) (fun m hm => H2 q hq e hw m e' hv fr cm al fi ii nx aw tp hK fun z => ?_) 16 0 0 rfl (fun z => ⟨fun t => absurd t (tq_0 z), fun t => t.elim (fun ⟨_, a, ha, _⟩ => by omega) (fun t => by omega)⟩)
    rw [hm]
    constructor
    · rintro (⟨t1, x, hx, t2⟩ | ⟨t1, t2, y, t3⟩)
      · exact Or.inl ⟨t1, x, hx, (hR x hx z).mp t2⟩
      · exact Or.inr ⟨t1, t2, y, (hR z t2 y).mp t3⟩
    · rintro (⟨t1, x, hx, t2⟩ | ⟨t1, t2, y, t3⟩)
      · exact Or.inl ⟨t1, x, hx, (hR x hx z).mpr t2⟩
      · exact Or.inr ⟨t1, t2, y, (hR z t2 y).mpr t3⟩
  · rcases hw with rfl | rfl <;> exact absurd z2 (by decide)
theorem zx_t40 (post : Int32 → SX → Prop) (H : post (nI (tq_s (fun x => tq_r (fun y => tq_B (xtp x) y)) 16)) (xl, xr, xe, xop, xar, xlo, xhi, xhv, xfr, xcm, xal, xfi, xin, xnx, xaw, xtp)) :
    ∀ d x, x + d = 16 → wX_trapsAt_40 post xl xr xe xop xar xlo xhi xhv xfr xcm xal xfi xin xnx xaw xtp (d + 1) (nI (tq_s (fun x => tq_r (fun y => tq_B (xtp x) y)) x)) (nI x) := by
  intro d
  induction d with
  | zero =>
    intro x hx
    obtain rfl : x = 16 := by omega
    exact br_t (nI_le (a := 16) (b := 16) (Nat.le_refl _) (by decide)) H
  | succ d ih =>
    intro x hx
    rw [wX_trapsAt_40]
    dsimp only
    rw [nI_clamp (n := x) (by omega)]
    exact br_f (nI_ge (b := 16) (by omega) (by decide)) ⟨vp_in_nI (by omega) (by decide), zx_ones _ _ (nm_r (nI_add _ _) (nm_r (nI_1 x) (ih (x + 1) (by omega))))⟩
theorem zx_t2 (post : Int32 → SX → Prop) {q : Nat} {o : Nat → Nat} {S : Nat → Nat → Prop} (hq : q < 16) (hop : ∀ p, p < 16 → xop p = nI (o p) ∧ o p ≤ 14) (hv : ∀ i, i < 256 → ∀ y, tq_B (xhv i) y ↔ S i y) (hS : ∀ i y, S i y → y < 16)
    (H : ∀ ii nx aw tp, post (nI (yd_T o xar S q)) (xl, xr, xe, xop, xar, xlo, xhi, xhv, xfr, xcm, xal, xfi, ii, nx, aw, tp)) :
    ∀ d x ii, x + d = 16 → (∀ a, a < x → ii a = xhv (q * 16 + a)) → wX_trapsAt_2 post (nI q) xl xr xe (d + 1) (nI x) xop xar xlo xhi xhv xfr xcm xal xfi ii xnx xaw xtp := by
  intro d
  induction d with
  | zero =>
    intro x ii hx h
    obtain rfl : x = 16 := by omega
    refine br_t (nI_le (a := 16) (b := 16) (Nat.le_refl _) (by decide)) (xa_transfer _ hq (hop q hq).1 rfl (hop q hq).2 (fun a ha y t => ?_) fun nx aw tp hT => ⟨17, zx_t40 post ?_ 16 0 rfl⟩)
    · rw [h a ha] at t
      exact hS _ _ ((hv (q * 16 + a) (by omega) y).mp t)
    · have e : tq_s (fun x => tq_r (fun y => tq_B (tp x) y)) 16 = yd_T o xar S q := tq_s_c fun x hx => tq_r_c fun y _ => by
        rw [(hT x hx y).2.2]
        refine and_congr ⟨fun t => ?_, fun t => ⟨hx, ?_⟩⟩ Iff.rfl
        · have t2 := t.2
          rw [h x hx] at t2
          exact (hv (q * 16 + x) (by omega) y).mp t2
        · rw [h x hx]
          exact (hv (q * 16 + x) (by omega) y).mpr t
      rw [e]
      exact H _ _ _ _
  | succ d ih =>
    intro x ii hx h
    rw [wX_trapsAt_2]
    dsimp only
    rw [tn_ix, nI_clamp (n := x) (by omega), nI_clamp (n := q * 16 + x) (by omega)]
    refine br_f (nI_ge (b := 16) (by omega) (by decide)) ⟨vp_in_nI (by omega) (by decide), vp_in_nI (by omega) (by decide), nm_e (nm_r (nI_1 x) (ih (x + 1) _ (by omega) (lt_s (fun a ha => ?_) pk_us)))⟩
    rw [pk_un (by omega)]; exact h a ha
theorem zx_tat (post : Int32 → SX → Prop) {q : Nat} {o : Nat → Nat} {S : Nat → Nat → Prop} (hq : q < 16) (hop : ∀ p, p < 16 → xop p = nI (o p) ∧ o p ≤ 14) (hv : ∀ i, i < 256 → ∀ y, tq_B (xhv i) y ↔ S i y) (hS : ∀ i y, S i y → y < 16)
    (H : ∀ ii nx aw tp, post (nI (yd_T o xar S q)) (xl, xr, xe, xop, xar, xlo, xhi, xhv, xfr, xcm, xal, xfi, ii, nx, aw, tp)) : wpX_trapsAt post (xl, xr, xe, xop, xar, xlo, xhi, xhv, xfr, xcm, xal, xfi, xin, xnx, xaw, xtp) (nI q) :=
  ⟨17, zx_t2 post hq hop hv hS H 16 0 xin rfl lt_0⟩
theorem zx_traps (post : Int32 → SX → Prop) {L a b c d : Nat} {o : Nat → Nat} (p : Int32) (h : zz_H L a b c d o xop xlo xhi) (hl : xl = nI L) (hr : xr = 0 ∨ (xr = 1 ∧ xf_K L o xar (xf_I L a b c d) xhv xal xfi xe))
    (H1 : (¬ ∃ k, k < L ∧ p = nI k) → post (-3) (xl, xr, xe, xop, xar, xlo, xhi, xhv, xfr, xcm, xal, xfi, xin, xnx, xaw, xtp))
    (H2 : ∀ q, q < L → p = nI q → ∀ e hv fr cm al fi ii nx aw tp, xf_K L o xar (xf_I L a b c d) hv al fi e → post (nI (yd_T o xar (tl_R (ta_SR L o xar) (xf_I L a b c d)) q)) (xl, 1, e, xop, xar, xlo, xhi, hv, fr, cm, al, fi, ii, nx, aw, tp)) :
    wpX_traps post (xl, xr, xe, xop, xar, xlo, xhi, xhv, xfr, xcm, xal, xfi, xin, xnx, xaw, xtp) p := by
  have hL := h.1
  unfold wpX_traps
  dsimp only
  refine xb_no _ hl hL p (fun q hq e => br_t rfl ?_) (fun hn => br_f (by decide) (H1 hn))
  refine zx_prep _ h hl hr fun e' hv fr cm al fi ii nx aw tp hK => ?_
  rw [e]
  exact zx_tat _ (by omega) h.2.1 hK.1 (fun i y t => (xf_domR (xf_I_dom h.2.2.1 h.2.2.2.1) i y t).2) fun ii' nx' aw' tp' => H2 q hq e e' hv fr cm al fi ii' nx' aw' tp' hK
theorem zz_T_bd (o : Nat → Nat) (c : Nat → Int32) (S : Nat → Nat → Prop) (q : Nat) : yd_T o c S q ≤ 256 := by
  have := tq_s_bd (f := fun x => tq_r (fun y => S (q * 16 + x) y ∧ ta_TR (o q) (c q) x y)) (c := 16) (n := 16) (fun _ _ => tq_r_bd _)
  unfold yd_T; omega
theorem zx_s6 (post : Int32 → SX → Prop) {L : Nat} {o : Nat → Nat} {S : Nat → Nat → Prop} (hl : xl = nI L) (hL : L ≤ 16) (hop : ∀ p, p < 16 → xop p = nI (o p) ∧ o p ≤ 14) (hv : ∀ i, i < 256 → ∀ y, tq_B (xhv i) y ↔ S i y) (hS : ∀ i y, S i y → y < 16)
    (H : ∀ ii nx aw tp, post (nI (tq_b (∀ q, q < L → yd_T o xar S q = 0))) (xl, xr, xe, xop, xar, xlo, xhi, xhv, xfr, xcm, xal, xfi, ii, nx, aw, tp)) :
    ∀ d q ii nx aw tp, q + d = L → (∀ j, j < q → yd_T o xar S j = 0) → wX_safe_6 post (d + 1) (nI q) xl xr xe xop xar xlo xhi xhv xfr xcm xal xfi ii nx aw tp := by
  subst hl
  intro d
  induction d with
  | zero =>
    intro q ii nx aw tp hq h
    obtain rfl : q = L := by omega
    have g := H ii nx aw tp
    rw [tq_bt h] at g
    exact br_t (nI_le (Nat.le_refl _) (by omega)) g
  | succ d ih =>
    intro q ii nx aw tp hq h
    rw [wX_safe_6]
    refine br_f (nI_ge (by omega) (by omega)) (zx_tat _ (by omega) hop hv hS fun ii' nx' aw' tp' => ?_)
    have bd := zz_T_bd o xar S q
    refine pk_le (yd_T o xar S q) 0 (fun t => nm_r (nI_1 q) (ih (q + 1) _ _ _ _ (by omega) (lt_s h (by omega)))) (fun t => ?_) rfl rfl (by omega) (by decide)
    have g := H ii' nx' aw' tp'
    rw [tq_bf fun t2 => by have := t2 q (by omega); omega] at g
    exact g
theorem zx_safe (post : Int32 → SX → Prop) {L a b c d : Nat} {o : Nat → Nat} (h : zz_H L a b c d o xop xlo xhi) (hl : xl = nI L) (hr : xr = 0 ∨ (xr = 1 ∧ xf_K L o xar (xf_I L a b c d) xhv xal xfi xe))
    (H2 : ∀ e hv fr cm al fi ii nx aw tp, xf_K L o xar (xf_I L a b c d) hv al fi e → post (nI (tq_b (∀ q, q < L → yd_T o xar (tl_R (ta_SR L o xar) (xf_I L a b c d)) q = 0))) (xl, 1, e, xop, xar, xlo, xhi, hv, fr, cm, al, fi, ii, nx, aw, tp)) :
    wpX_safe post (xl, xr, xe, xop, xar, xlo, xhi, xhv, xfr, xcm, xal, xfi, xin, xnx, xaw, xtp) := by
  unfold wpX_safe
  dsimp only
  refine zx_prep _ h hl hr fun e' hv fr cm al fi ii nx aw tp hK => ⟨L + 1, ?_⟩
  exact zx_s6 post hl h.1 h.2.1 hK.1 (fun i y t => (xf_domR (xf_I_dom h.2.2.1 h.2.2.2.1) i y t).2) (fun ii' nx' aw' tp' => H2 e' hv fr cm al fi ii' nx' aw' tp' hK) L 0 ii nx aw tp (by omega) lt_0
theorem zx_soonest (post : Int32 → SX → Prop) {L a b c d : Nat} {o : Nat → Nat} (p : Int32) (h : zz_H L a b c d o xop xlo xhi) (hl : xl = nI L) (hr : xr = 0 ∨ (xr = 1 ∧ xf_K L o xar (xf_I L a b c d) xhv xal xfi xe))
    (H1 : (¬ ∃ k, k < L ∧ p = nI k) → post (-3) (xl, xr, xe, xop, xar, xlo, xhi, xhv, xfr, xcm, xal, xfi, xin, xnx, xaw, xtp))
    (H2 : ∀ q, q < L → p = nI q → ∀ e hv fr cm al fi ii nx aw tp, xf_K L o xar (xf_I L a b c d) hv al fi e → post (fi q) (xl, 1, e, xop, xar, xlo, xhi, hv, fr, cm, al, fi, ii, nx, aw, tp)) :
    wpX_soonest post (xl, xr, xe, xop, xar, xlo, xhi, xhv, xfr, xcm, xal, xfi, xin, xnx, xaw, xtp) p := by
  have hL := h.1
  unfold wpX_soonest
  dsimp only
  refine xb_no _ hl hL p (fun q hq e => br_t rfl ?_) (fun hn => br_f (by decide) (H1 hn))
  refine zx_prep _ h hl hr fun e' hv fr cm al fi ii nx aw tp hK => ?_
  have g := H2 q hq e e' hv fr cm al fi ii nx aw tp hK
  rw [e, nI_clamp (n := q) (by omega)]
  exact ⟨vp_in_nI (by omega) (by decide), g⟩
theorem zx_canEnd (post : Int32 → SX → Prop) {L a b c d : Nat} {o : Nat → Nat} (h : zz_H L a b c d o xop xlo xhi) (hl : xl = nI L) (hr : xr = 0 ∨ (xr = 1 ∧ xf_K L o xar (xf_I L a b c d) xhv xal xfi xe))
    (H2 : ∀ e hv fr cm al fi ii nx aw tp, xf_K L o xar (xf_I L a b c d) hv al fi e → post e (xl, 1, e, xop, xar, xlo, xhi, hv, fr, cm, al, fi, ii, nx, aw, tp)) :
    wpX_canEnd post (xl, xr, xe, xop, xar, xlo, xhi, xhv, xfr, xcm, xal, xfi, xin, xnx, xaw, xtp) := by
  unfold wpX_canEnd
  dsimp only
  refine zx_prep _ h hl hr fun e' hv fr cm al fi ii nx aw tp hK => ?_
  have n : narrow .boolean (.int e') = .int e' := by rcases hK.2.2.1 with rfl | rfl <;> rfl
  exact ⟨n, H2 e' hv fr cm al fi ii nx aw tp hK⟩
theorem zx_e8 (post : Int32 → SX → Prop) {L : Nat} (hl : xl = nI L) (hL : L ≤ 16) (H : post (nI (tq_s (fun i => tq_r (fun y => tq_B (xal i) y)) (L * 16))) (xl, xr, xe, xop, xar, xlo, xhi, xhv, xfr, xcm, xal, xfi, xin, xnx, xaw, xtp)) :
    ∀ d i, i + d = L * 16 → wX_endless_8 post xl xr xe xop xar xlo xhi xhv xfr xcm xal xfi xin xnx xaw xtp (d + 1) (nI (tq_s (fun i => tq_r (fun y => tq_B (xal i) y)) i)) (nI i) := by
  have hm : xl * 16 = nI (L * 16) := by rw [hl, show (16 : Int32) = nI 16 from rfl, pk_mul]
  intro d
  induction d with
  | zero =>
    intro i hi
    obtain rfl : i = L * 16 := by omega
    rw [wX_endless_8]
    dsimp only
    rw [hm]
    exact br_t (nI_le (Nat.le_refl _) (by omega)) H
  | succ d ih =>
    intro i hi
    rw [wX_endless_8]
    dsimp only
    rw [hm, nI_clamp (n := i) (by omega)]
    exact br_f (nI_ge (by omega) (by omega)) ⟨vp_in_nI (by omega) (by decide), zx_ones _ _ (nm_r (nI_add _ _) (nm_r (nI_1 i) (ih (i + 1) (by omega))))⟩
theorem zx_endless (post : Int32 → SX → Prop) {L a b c d : Nat} {o : Nat → Nat} (h : zz_H L a b c d o xop xlo xhi) (hl : xl = nI L) (hr : xr = 0 ∨ (xr = 1 ∧ xf_K L o xar (xf_I L a b c d) xhv xal xfi xe))
    (H2 : ∀ e hv fr cm al fi ii nx aw tp, xf_K L o xar (xf_I L a b c d) hv al fi e → post (nI (tq_N (xd_S al))) (xl, 1, e, xop, xar, xlo, xhi, hv, fr, cm, al, fi, ii, nx, aw, tp)) :
    wpX_endless post (xl, xr, xe, xop, xar, xlo, xhi, xhv, xfr, xcm, xal, xfi, xin, xnx, xaw, xtp) := by
  have hL := h.1
  unfold wpX_endless
  dsimp only
  refine zx_prep _ h hl hr fun e' hv fr cm al fi ii nx aw tp hK => ⟨L * 16 + 1, ?_⟩
  refine zx_e8 post hl hL ?_ (L * 16) 0 (by omega)
  have g := H2 e' hv fr cm al fi ii nx aw tp hK
  have e : tq_s (fun i => tq_r (fun y => tq_B (al i) y)) (L * 16) = tq_N (xd_S al) := by
    unfold tq_N
    have e1 : (256 : Nat) = L * 16 + (256 - L * 16) := by omega
    rw [e1, tq_s_add, tq_s_0 (f := fun x => tq_r (xd_S al (L * 16 + x))) fun i hi => tq_r_0 fun y _ t => ?_, Nat.add_zero]
    · exact tq_s_c fun i hi => tq_r_c fun y _ => ⟨fun t => ⟨by omega, t⟩, fun t => t.2⟩
    · have := (xf_domR (xf_I_dom h.2.2.1 h.2.2.2.1) _ _ (hK.2.2.2.2.1.1 _ _ t)).1
      omega
  rw [e]
  exact g
theorem zx_forever (post : Int32 → SX → Prop) {L a b c d : Nat} {o : Nat → Nat} (h : zz_H L a b c d o xop xlo xhi) (hl : xl = nI L) (hr : xr = 0 ∨ (xr = 1 ∧ xf_K L o xar (xf_I L a b c d) xhv xal xfi xe))
    (H2 : ∀ e hv fr cm al fi ii nx aw tp, xf_K L o xar (xf_I L a b c d) hv al fi e → post (nI (tq_b (0 < tq_N (xd_S al)))) (xl, 1, e, xop, xar, xlo, xhi, hv, fr, cm, al, fi, ii, nx, aw, tp)) :
    wpX_canRunForever post (xl, xr, xe, xop, xar, xlo, xhi, xhv, xfr, xcm, xal, xfi, xin, xnx, xaw, xtp) := by
  unfold wpX_canRunForever
  dsimp only
  refine zx_endless _ h hl hr fun e' hv fr cm al fi ii nx aw tp hK => ?_
  have g := H2 e' hv fr cm al fi ii nx aw tp hK
  have bd := tq_N_bd (xd_S al)
  refine pk_le (tq_N (xd_S al)) 0 (fun t => ?_) (fun t => ?_) rfl rfl (by omega) (by decide)
  · rw [tq_bf fun t2 => by omega] at g; exact g
  · rw [tq_bt t] at g; exact g
end
end
section
/-! the reference's questions -/
section
variable {yl yk ye : Int32} {yop ycs ylo yhi yall yla yfo yen yfi ytr : Nat → Int32}
theorem zy_work (post : SY → Prop) {L a b c d : Nat} {o : Nat → Nat} (h : zz_H L a b c d o yop ylo yhi) (hl : yl = nI L) (hr : yk = 0 ∨ (yk = 1 ∧ yd_K L o ycs (xf_I L a b c d) yall yen yfi ye ytr))
    (H : ∀ e all la fo en fi tr, yd_K L o ycs (xf_I L a b c d) all en fi e tr → post (yl, 1, e, yop, ycs, ylo, yhi, all, la, fo, en, fi, tr)) : wpY_workOut post (yl, yk, ye, yop, ycs, ylo, yhi, yall, yla, yfo, yen, yfi, ytr) :=
  yd_work post hl h.1 h.2.1 h.2.2.1 h.2.2.2.1 h.2.2.2.2.1 h.2.2.2.2.2.1 h.2.2.2.2.2.2.1 h.2.2.2.2.2.2.2.1 h.2.2.2.2.2.2.2.2.1 h.2.2.2.2.2.2.2.2.2 hr H
theorem zy_c4 (post : Int32 → Prop) (r : Int32) (H : post (nI (tq_r (fun y => tq_B r y)))) : ∀ d y, y + d = 16 → wY_count_4 post r yl yk ye yop ycs ylo yhi yall yla yfo yen yfi ytr (d + 1) (nI (tq_s (fun y => tq_b (tq_B r y)) y)) (nI y) := by
  intro d
  induction d with
  | zero =>
    intro y hy
    obtain rfl : y = 16 := by omega
    exact br_t (nI_le (a := 16) (b := 16) (Nat.le_refl _) (by decide)) H
  | succ d ih =>
    intro y hy
    rw [wY_count_4]
    exact br_f (nI_ge (b := 16) (by omega) (by decide)) (nm_r (by rw [tq_bitN r (by omega), nI_add]; rfl) (nm_r (nI_1 y) (ih (y + 1) (by omega))))
theorem zy_count (post : Int32 → Prop) (r : Int32) (H : post (nI (tq_r (fun y => tq_B r y)))) : wpY_count post (yl, yk, ye, yop, ycs, ylo, yhi, yall, yla, yfo, yen, yfi, ytr) r := ⟨17, zy_c4 post r H 16 0 rfl⟩
theorem zy_s19 (post : Int32 → SY → Prop) {q : Nat} (hq : q < 16) (H : post (nI (tq_s (fun x => tq_r (fun y => tq_B (yall (q * 16 + x)) y)) 16)) (yl, yk, ye, yop, ycs, ylo, yhi, yall, yla, yfo, yen, yfi, ytr)) :
    ∀ d x, x + d = 16 → wY_states_19 post (nI q) yl yk ye yop ycs ylo yhi yall yla yfo yen yfi ytr (d + 1) (nI (tq_s (fun x => tq_r (fun y => tq_B (yall (q * 16 + x)) y)) x)) (nI x) := by
  intro d
  induction d with
  | zero =>
    intro x hx
    obtain rfl : x = 16 := by omega
    exact br_t (nI_le (a := 16) (b := 16) (Nat.le_refl _) (by decide)) H
  | succ d ih =>
    intro x hx
    rw [wY_states_19]
    dsimp only
    rw [tn_ix, nI_clamp (n := q * 16 + x) (by omega)]
    exact br_f (nI_ge (b := 16) (by omega) (by decide)) ⟨vp_in_nI (by omega) (by decide), zy_count _ _ (nm_r (nI_add _ _) (nm_r (nI_1 x) (ih (x + 1) (by omega))))⟩
theorem zy_states (post : Int32 → SY → Prop) {L a b c d : Nat} {o : Nat → Nat} (p : Int32) (h : zz_H L a b c d o yop ylo yhi) (hl : yl = nI L) (hr : yk = 0 ∨ (yk = 1 ∧ yd_K L o ycs (xf_I L a b c d) yall yen yfi ye ytr))
    (H1 : (¬ ∃ k, k < L ∧ p = nI k) → post (-3) (yl, yk, ye, yop, ycs, ylo, yhi, yall, yla, yfo, yen, yfi, ytr))
    (H2 : ∀ q, q < L → p = nI q → ∀ e all la fo en fi tr, yd_K L o ycs (xf_I L a b c d) all en fi e tr → post (nI (tq_s (fun x => tq_r (fun y => tl_R (ta_SR L o ycs) (xf_I L a b c d) (q * 16 + x) y)) 16)) (yl, 1, e, yop, ycs, ylo, yhi, all, la, fo, en, fi, tr)) :
    wpY_states post (yl, yk, ye, yop, ycs, ylo, yhi, yall, yla, yfo, yen, yfi, ytr) p := by
  have hL := h.1
  unfold wpY_states
  dsimp only
  refine ya_bad _ hl hL p (fun q hq e => br_t rfl ?_) (fun hn => br_f (by decide) (H1 hn))
  refine zy_work _ h hl hr fun e' all la fo en fi tr hK => ⟨17, ?_⟩
  have g := H2 q hq e e' all la fo en fi tr hK
  rw [← zz_rows hK.1.1 (by omega)] at g
  rw [e]
  exact zy_s19 post (by omega) g 16 0 rfl
theorem zy_possible (post : Int32 → SY → Prop) {L a b c d : Nat} {o : Nat → Nat} (p v2 v3 : Int32) (h : zz_H L a b c d o yop ylo yhi) (hl : yl = nI L) (hr : yk = 0 ∨ (yk = 1 ∧ yd_K L o ycs (xf_I L a b c d) yall yen yfi ye ytr))
    (H1 : (¬ ∃ k x y, k < L ∧ p = nI k ∧ x < 16 ∧ v2 = nI x ∧ y < 16 ∧ v3 = nI y) → post 0 (yl, yk, ye, yop, ycs, ylo, yhi, yall, yla, yfo, yen, yfi, ytr))
    (H2 : ∀ q x y, q < L → p = nI q → x < 16 → v2 = nI x → y < 16 → v3 = nI y → ∀ e all la fo en fi tr, yd_K L o ycs (xf_I L a b c d) all en fi e tr → post (nI (tq_b (tl_R (ta_SR L o ycs) (xf_I L a b c d) (q * 16 + x) y))) (yl, 1, e, yop, ycs, ylo, yhi, all, la, fo, en, fi, tr)) :
    wpY_possible post (yl, yk, ye, yop, ycs, ylo, yhi, yall, yla, yfo, yen, yfi, ytr) p v2 v3 := by
  have hL := h.1
  unfold wpY_possible
  dsimp only
  refine ya_bad _ hl hL p (fun q hq e => br_t rfl ?_) (fun hn => br_f (by decide) (H1 fun ⟨k, _, _, hk, e, _⟩ => hn ⟨k, hk, e⟩))
  refine br_c (fun z => H1 fun ⟨_, x, _, _, _, hx, e, _⟩ => ?_) (fun z2 => br_c (fun z => H1 fun ⟨_, x, _, _, _, hx, e, _⟩ => ?_) (fun z3 => br_c (fun z => H1 fun ⟨_, _, y, _, _, _, _, hy, e⟩ => ?_) (fun z4 => br_c (fun z5 => ?_) (fun z => H1 fun ⟨_, _, y, _, _, _, _, hy, e⟩ => ?_))))
  · rw [e] at z; exact nI_pos (by omega) z
  · rw [e] at z; exact nI_nlt (a := 15) (by omega) (by decide) z
  · rw [e] at z; exact nI_pos (by omega) z
  · obtain ⟨x, hx, rfl⟩ := nI_of2 (n := 15) (by decide) z2 (Int32.not_lt.mp z3)
    obtain ⟨y, hy, rfl⟩ := nI_of2 (n := 15) (by decide) z4 z5
    refine zy_work _ h hl hr fun e' all la fo en fi tr hK => ?_
    have g := H2 q x y hq e (by omega) rfl (by omega) rfl e' all la fo en fi tr hK
    rw [← tq_bc (hK.1.1 (q * 16 + x) (by omega) y)] at g
    rw [e, tn_ix, nI_clamp (n := q * 16 + x) (by omega)]
    refine ⟨vp_in_nI (by omega) (by decide), br_c (fun w => ?_) (fun w => ?_)⟩
    · rw [tq_bt ((tq_bit _ (by omega)).mp w)] at g; exact g
    · rw [tq_bf fun w' => w ((tq_bit _ (by omega)).mpr w')] at g; exact g
  · rw [e] at z; exact z (nI_le (b := 15) (by omega) (by decide))
theorem zy_v35 (post : Int32 → SY → Prop) {q : Nat} {w : Int32} (hq : q < 16) (hw : w = 0 ∨ w = 1)
    (H : ∀ m, (∀ z, tq_B m z ↔ (w = 1 ∧ ∃ x, x < 16 ∧ tq_B (yall (q * 16 + x)) z) ∨ (¬ w = 1 ∧ z < 16 ∧ ∃ y, tq_B (yall (q * 16 + z)) y)) → post m (yl, yk, ye, yop, ycs, ylo, yhi, yall, yla, yfo, yen, yfi, ytr)) :
    ∀ d x m1 m2, x + d = 16 → (∀ z, tq_B m1 z ↔ z < x ∧ ∃ y, tq_B (yall (q * 16 + z)) y) → (∀ z, tq_B m2 z ↔ ∃ a, a < x ∧ tq_B (yall (q * 16 + a)) z) → wY_values_35 post (nI q) w yl yk ye yop ycs ylo yhi yall yla yfo yen yfi ytr (d + 1) m1 m2 (nI x) := by
  intro d
  induction d with
  | zero =>
    intro x m1 m2 hx h1 h2
    obtain rfl : x = 16 := by omega
    refine br_t (nI_le (a := 16) (b := 16) (Nat.le_refl _) (by decide)) (br_c (fun e => H m1 fun z => ?_) (fun e => H m2 fun z => ?_))
    · rw [h1]
      have n1 : ¬ w = 1 := by rw [e]; decide
      exact ⟨fun t => Or.inr ⟨n1, t⟩, fun t => t.elim (fun t => absurd t.1 n1) (fun t => t.2)⟩
    · rw [h2]
      have n1 : w = 1 := hw.elim (fun t => absurd t e) id
      exact ⟨fun t => Or.inl ⟨n1, t⟩, fun t => t.elim (fun t => t.2) (fun t => absurd n1 t.1)⟩
  | succ d ih =>
    intro x m1 m2 hx h1 h2
    rw [wY_values_35]
    dsimp only
    rw [tn_ix, nI_clamp (n := q * 16 + x) (by omega)]
    have hb : vp_in (nI (q * 16 + x)) 256 := vp_in_nI (by omega) (by decide)
    have n2 : ∀ z, tq_B (m2 ||| yall (q * 16 + x)) z ↔ ∃ a, a < x + 1 ∧ tq_B (yall (q * 16 + a)) z := fun z => by
      rw [tq_or, h2]
      constructor
      · rintro (⟨a, ha, t⟩ | t)
        · exact ⟨a, by omega, t⟩
        · exact ⟨x, by omega, t⟩
      · rintro ⟨a, ha, t⟩
        by_cases e : a = x
        · subst e; exact Or.inr t
        · exact Or.inl ⟨a, by omega, t⟩
    refine br_f (nI_ge (b := 16) (by omega) (by decide)) ⟨hb, nm_e ⟨hb, br_c (fun w2 => nm_r (nI_1 x) (ih (x + 1) _ _ (by omega) (fun z => ?_) n2)) (fun w2 => nm_e (nm_r (nI_1 x) (ih (x + 1) _ _ (by omega) (fun z => ?_) n2)))⟩⟩
    · rw [h1]
      refine ⟨fun t => ⟨by omega, t.2⟩, fun ⟨t1, y, t2⟩ => ?_⟩
      by_cases e : z = x
      · subst e; exact absurd t2 (by rw [w2]; exact tq_0 y)
      · exact ⟨by omega, y, t2⟩
    · rw [tq_or, tq_one (by omega), h1]
      constructor
      · rintro (t | t)
        · exact ⟨by omega, t.2⟩
        · subst t; exact ⟨by omega, tq_nz.mp w2⟩
      · rintro ⟨t1, t2⟩
        by_cases e : z = x
        · exact Or.inr e
        · exact Or.inl ⟨by omega, t2⟩
theorem zy_values (post : Int32 → SY → Prop) {L a b c d : Nat} {o : Nat → Nat} (p w : Int32) (h : zz_H L a b c d o yop ylo yhi) (hl : yl = nI L) (hr : yk = 0 ∨ (yk = 1 ∧ yd_K L o ycs (xf_I L a b c d) yall yen yfi ye ytr))
    (H1 : (¬ ∃ k, k < L ∧ p = nI k) → post (-3) (yl, yk, ye, yop, ycs, ylo, yhi, yall, yla, yfo, yen, yfi, ytr)) (H3 : (∃ k, k < L ∧ p = nI k) → ¬ (w = 0 ∨ w = 1) → post (-4) (yl, yk, ye, yop, ycs, ylo, yhi, yall, yla, yfo, yen, yfi, ytr))
    (H2 : ∀ q, q < L → p = nI q → (w = 0 ∨ w = 1) → ∀ m e all la fo en fi tr, yd_K L o ycs (xf_I L a b c d) all en fi e tr →
      (∀ z, tq_B m z ↔ (w = 1 ∧ ∃ x, x < 16 ∧ tl_R (ta_SR L o ycs) (xf_I L a b c d) (q * 16 + x) z) ∨ (¬ w = 1 ∧ z < 16 ∧ ∃ y, tl_R (ta_SR L o ycs) (xf_I L a b c d) (q * 16 + z) y)) →
      post m (yl, 1, e, yop, ycs, ylo, yhi, all, la, fo, en, fi, tr)) :
    wpY_values post (yl, yk, ye, yop, ycs, ylo, yhi, yall, yla, yfo, yen, yfi, ytr) p w := by
  have hL := h.1
  unfold wpY_values
  dsimp only
  refine ya_bad _ hl hL p (fun q hq e => br_t rfl ?_) (fun hn => br_f (by decide) (H1 hn))
  refine br_c (fun z => H3 ⟨q, hq, e⟩ fun hw => ?_) (fun z => br_c (fun z2 => ?_) (fun z2 => H3 ⟨q, hq, e⟩ fun hw => ?_))
  · rcases hw with rfl | rfl <;> exact absurd z (by decide)
  · obtain ⟨j, hj, ew⟩ := nI_of2 (n := 1) (by decide) z z2
    have hw : w = 0 ∨ w = 1 := by
      obtain rfl | rfl : j = 0 ∨ j = 1 := by omega
      · exact Or.inl ew
      · exact Or.inr ew
    refine zy_work _ h hl hr fun e' all la fo en fi tr hK => ⟨17, ?_⟩
    rw [e]
    have hR := fun x (hx : x < 16) y => hK.1.1 (q * 16 + x) (by omega) y
    refine zy_v35 post (by omega) hw (fun m hm => H2 q hq e hw m e' all la fo en fi tr hK fun z => ?_) 16 0 0 0 rfl (fun z => ⟨fun t => absurd t (tq_0 z), fun t => by omega⟩) (fun z => ⟨fun t => absurd t (tq_0 z), fun ⟨a, ha, _⟩ => by omega⟩)
    rw [hm]
    constructor
    · rintro (⟨t1, x, hx, t2⟩ | ⟨t1, t2, y, t3⟩)
      · exact Or.inl ⟨t1, x, hx, (hR x hx z).mp t2⟩
      · exact Or.inr ⟨t1, t2, y, (hR z t2 y).mp t3⟩
    · rintro (⟨t1, x, hx, t2⟩ | ⟨t1, t2, y, t3⟩)
      · exact Or.inl ⟨t1, x, hx, (hR x hx z).mpr t2⟩
      · exact Or.inr ⟨t1, t2, y, (hR z t2 y).mpr t3⟩
  · rcases hw with rfl | rfl <;> exact absurd z2 (by decide)
theorem zy_traps (post : Int32 → SY → Prop) {L a b c d : Nat} {o : Nat → Nat} (p : Int32) (h : zz_H L a b c d o yop ylo yhi) (hl : yl = nI L) (hr : yk = 0 ∨ (yk = 1 ∧ yd_K L o ycs (xf_I L a b c d) yall yen yfi ye ytr))
    (H1 : (¬ ∃ k, k < L ∧ p = nI k) → post (-3) (yl, yk, ye, yop, ycs, ylo, yhi, yall, yla, yfo, yen, yfi, ytr))
    (H2 : ∀ q, q < L → p = nI q → ∀ e all la fo en fi tr, yd_K L o ycs (xf_I L a b c d) all en fi e tr → post (nI (yd_T o ycs (tl_R (ta_SR L o ycs) (xf_I L a b c d)) q)) (yl, 1, e, yop, ycs, ylo, yhi, all, la, fo, en, fi, tr)) :
    wpY_traps post (yl, yk, ye, yop, ycs, ylo, yhi, yall, yla, yfo, yen, yfi, ytr) p := by
  have hL := h.1
  unfold wpY_traps
  dsimp only
  refine ya_bad _ hl hL p (fun q hq e => br_t rfl ?_) (fun hn => br_f (by decide) (H1 hn))
  refine zy_work _ h hl hr fun e' all la fo en fi tr hK => ?_
  have g := H2 q hq e e' all la fo en fi tr hK
  rw [← hK.2 q (by omega)] at g
  rw [e, nI_clamp (n := q) (by omega)]
  exact ⟨vp_in_nI (by omega) (by decide), g⟩
theorem zy_s6 (post : Int32 → SY → Prop) {L : Nat} {T : Nat → Nat} (hl : yl = nI L) (hL : L ≤ 16) (hT : ∀ q, q < 16 → ytr q = nI (T q)) (hb : ∀ q, T q ≤ 256)
    (H : post (nI (tq_b (∀ q, q < L → T q = 0))) (yl, yk, ye, yop, ycs, ylo, yhi, yall, yla, yfo, yen, yfi, ytr)) :
    ∀ d q, q + d = L → (∀ j, j < q → T j = 0) → wY_safe_6 post yl yk ye yop ycs ylo yhi yall yla yfo yen yfi ytr (d + 1) (nI q) := by
  subst hl
  intro d
  induction d with
  | zero =>
    intro q hq h
    obtain rfl : q = L := by omega
    rw [tq_bt h] at H
    exact br_t (nI_le (Nat.le_refl _) (by omega)) H
  | succ d ih =>
    intro q hq h
    rw [wY_safe_6]
    dsimp only
    rw [nI_clamp (n := q) (by omega), hT q (by omega)]
    have bd := hb q
    refine br_f (nI_ge (by omega) (by omega)) ⟨vp_in_nI (by omega) (by decide), pk_le (T q) 0 (fun t => nm_r (nI_1 q) (ih (q + 1) (by omega) (lt_s h (by omega)))) (fun t => ?_) rfl rfl (by omega) (by decide)⟩
    rw [tq_bf fun t2 => by have := t2 q (by omega); omega] at H
    exact H
theorem zy_safe (post : Int32 → SY → Prop) {L a b c d : Nat} {o : Nat → Nat} (h : zz_H L a b c d o yop ylo yhi) (hl : yl = nI L) (hr : yk = 0 ∨ (yk = 1 ∧ yd_K L o ycs (xf_I L a b c d) yall yen yfi ye ytr))
    (H2 : ∀ e all la fo en fi tr, yd_K L o ycs (xf_I L a b c d) all en fi e tr → post (nI (tq_b (∀ q, q < L → yd_T o ycs (tl_R (ta_SR L o ycs) (xf_I L a b c d)) q = 0))) (yl, 1, e, yop, ycs, ylo, yhi, all, la, fo, en, fi, tr)) :
    wpY_safe post (yl, yk, ye, yop, ycs, ylo, yhi, yall, yla, yfo, yen, yfi, ytr) := by
  unfold wpY_safe
  dsimp only
  refine zy_work _ h hl hr fun e' all la fo en fi tr hK => ⟨L + 1, ?_⟩
  exact zy_s6 post hl h.1 hK.2 (zz_T_bd _ _ _) (H2 e' all la fo en fi tr hK) L 0 (by omega) lt_0
theorem zy_soonest (post : Int32 → SY → Prop) {L a b c d : Nat} {o : Nat → Nat} (p : Int32) (h : zz_H L a b c d o yop ylo yhi) (hl : yl = nI L) (hr : yk = 0 ∨ (yk = 1 ∧ yd_K L o ycs (xf_I L a b c d) yall yen yfi ye ytr))
    (H1 : (¬ ∃ k, k < L ∧ p = nI k) → post (-3) (yl, yk, ye, yop, ycs, ylo, yhi, yall, yla, yfo, yen, yfi, ytr))
    (H2 : ∀ q, q < L → p = nI q → ∀ e all la fo en fi tr, yd_K L o ycs (xf_I L a b c d) all en fi e tr → post (fi q) (yl, 1, e, yop, ycs, ylo, yhi, all, la, fo, en, fi, tr)) :
    wpY_soonest post (yl, yk, ye, yop, ycs, ylo, yhi, yall, yla, yfo, yen, yfi, ytr) p := by
  have hL := h.1
  unfold wpY_soonest
  dsimp only
  refine ya_bad _ hl hL p (fun q hq e => br_t rfl ?_) (fun hn => br_f (by decide) (H1 hn))
  refine zy_work _ h hl hr fun e' all la fo en fi tr hK => ?_
  have g := H2 q hq e e' all la fo en fi tr hK
  rw [e, nI_clamp (n := q) (by omega)]
  exact ⟨vp_in_nI (by omega) (by decide), g⟩
theorem zy_canEnd (post : Int32 → SY → Prop) {L a b c d : Nat} {o : Nat → Nat} (h : zz_H L a b c d o yop ylo yhi) (hl : yl = nI L) (hr : yk = 0 ∨ (yk = 1 ∧ yd_K L o ycs (xf_I L a b c d) yall yen yfi ye ytr))
    (H2 : ∀ e all la fo en fi tr, yd_K L o ycs (xf_I L a b c d) all en fi e tr → post e (yl, 1, e, yop, ycs, ylo, yhi, all, la, fo, en, fi, tr)) :
    wpY_canEnd post (yl, yk, ye, yop, ycs, ylo, yhi, yall, yla, yfo, yen, yfi, ytr) := by
  unfold wpY_canEnd
  dsimp only
  refine zy_work _ h hl hr fun e' all la fo en fi tr hK => ?_
  have n : narrow .boolean (.int e') = .int e' := by rcases hK.1.2.2.1 with rfl | rfl <;> rfl
  exact ⟨n, H2 e' all la fo en fi tr hK⟩
theorem zy_e8 (post : Int32 → SY → Prop) (H : post (nI (tq_s (fun i => tq_r (fun y => tq_B (yen i) y)) 256)) (yl, yk, ye, yop, ycs, ylo, yhi, yall, yla, yfo, yen, yfi, ytr)) :
    ∀ d i, i + d = 256 → wY_endless_8 post yl yk ye yop ycs ylo yhi yall yla yfo yen yfi ytr (d + 1) (nI (tq_s (fun i => tq_r (fun y => tq_B (yen i) y)) i)) (nI i) := by
  intro d
  induction d with
  | zero =>
    intro i hi
    obtain rfl : i = 256 := by omega
    exact br_t (nI_le (a := 256) (b := 256) (Nat.le_refl _) (by decide)) H
  | succ d ih =>
    intro i hi
    rw [wY_endless_8]
    dsimp only
    rw [nI_clamp (n := i) (by omega)]
    exact br_f (nI_ge (b := 256) (by omega) (by decide)) ⟨vp_in_nI (by omega) (by decide), zy_count _ _ (nm_r (nI_add _ _) (nm_r (nI_1 i) (ih (i + 1) (by omega))))⟩
theorem zy_endless (post : Int32 → SY → Prop) {L a b c d : Nat} {o : Nat → Nat} (h : zz_H L a b c d o yop ylo yhi) (hl : yl = nI L) (hr : yk = 0 ∨ (yk = 1 ∧ yd_K L o ycs (xf_I L a b c d) yall yen yfi ye ytr))
    (H2 : ∀ e all la fo en fi tr, yd_K L o ycs (xf_I L a b c d) all en fi e tr → post (nI (tq_N (xd_S en))) (yl, 1, e, yop, ycs, ylo, yhi, all, la, fo, en, fi, tr)) :
    wpY_endless post (yl, yk, ye, yop, ycs, ylo, yhi, yall, yla, yfo, yen, yfi, ytr) := by
  unfold wpY_endless
  dsimp only
  refine zy_work _ h hl hr fun e' all la fo en fi tr hK => ⟨257, ?_⟩
  refine zy_e8 post ?_ 256 0 rfl
  have g := H2 e' all la fo en fi tr hK
  have e : tq_s (fun i => tq_r (fun y => tq_B (en i) y)) 256 = tq_N (xd_S en) := tq_s_c fun i hi => tq_r_c fun y _ => ⟨fun t => ⟨hi, t⟩, fun t => t.2⟩
  rw [e]
  exact g
theorem zy_forever (post : Int32 → SY → Prop) {L a b c d : Nat} {o : Nat → Nat} (h : zz_H L a b c d o yop ylo yhi) (hl : yl = nI L) (hr : yk = 0 ∨ (yk = 1 ∧ yd_K L o ycs (xf_I L a b c d) yall yen yfi ye ytr))
    (H2 : ∀ e all la fo en fi tr, yd_K L o ycs (xf_I L a b c d) all en fi e tr → post (nI (tq_b (0 < tq_N (xd_S en)))) (yl, 1, e, yop, ycs, ylo, yhi, all, la, fo, en, fi, tr)) :
    wpY_canRunForever post (yl, yk, ye, yop, ycs, ylo, yhi, yall, yla, yfo, yen, yfi, ytr) := by
  unfold wpY_canRunForever
  dsimp only
  refine zy_endless _ h hl hr fun e' all la fo en fi tr hK => ?_
  have g := H2 e' all la fo en fi tr hK
  have bd := tq_N_bd (xd_S en)
  refine pk_le (tq_N (xd_S en)) 0 (fun t => ?_) (fun t => ?_) rfl rfl (by omega) (by decide)
  · rw [tq_bf fun t2 => by omega] at g; exact g
  · rw [tq_bt t] at g; exact g
end
end
section
/-! the relation and the owed statements -/
def zz_F (L a b c d : Nat) (o : Nat → Nat) (r xe : Int32) (op ar lo hi hv al fi : Nat → Int32) (ye : Int32) (all en yfi tr : Nat → Int32) : Prop :=
  zz_H L a b c d o op lo hi ∧ (r = 0 ∨ (r = 1 ∧ xf_K L o ar (xf_I L a b c d) hv al fi xe ∧ yd_K L o ar (xf_I L a b c d) all en yfi ye tr))
/-- the same program and ranges; if one is ready both are, and then each knows what the plain law says -/
def i_Rel (k : Nat) (u : SX) (v : SY) : Prop := match u with
  | (xl, xr, xe, xop, xar, xlo, xhi, xhv, xfr, xcm, xal, xfi, xin, xnx, xaw, xtp) => match v with
    | (yl, yk, ye, yop, ycs, ylo, yhi, yall, yla, yfo, yen, yfi, ytr) => ∃ (L a b c d : Nat) (o : Nat → Nat), xl = nI L ∧ yl = nI L ∧ yk = xr ∧ yop = xop ∧ ycs = xar ∧ ylo = xlo ∧ yhi = xhi ∧ zz_F L a b c d o xr xe xop xar xlo xhi xhv xal xfi ye yall yen yfi ytr
theorem i_up {k : Nat} {u : SX} {v : SY} (h : i_Rel k u v) : i_Rel (k + 4) u v := h
theorem zz_el {k : Nat} {P : SX → SY → Prop} {u : SX} {v : SY}
    (h : ∀ (L a b c d : Nat) (o : Nat → Nat) (xr xe : Int32) (xop xar xlo xhi xhv xfr xcm xal xfi xin xnx xaw xtp : Nat → Int32) (ye : Int32) (yall yla yfo yen yfi ytr : Nat → Int32), zz_F L a b c d o xr xe xop xar xlo xhi xhv xal xfi ye yall yen yfi ytr → P (nI L, xr, xe, xop, xar, xlo, xhi, xhv, xfr, xcm, xal, xfi, xin, xnx, xaw, xtp) (nI L, xr, ye, xop, xar, xlo, xhi, yall, yla, yfo, yen, yfi, ytr))
    (I : i_Rel k u v) : P u v := by
  obtain ⟨xl, xr, xe, xop, xar, xlo, xhi, xhv, xfr, xcm, xal, xfi, xin, xnx, xaw, xtp⟩ := u
  obtain ⟨yl, yk, ye, yop, ycs, ylo, yhi, yall, yla, yfo, yen, yfi, ytr⟩ := v
  obtain ⟨L, a, b, c, d, o, e1, e2, e3, e4, e5, e6, e7, hF⟩ := I
  subst e1 e2 e3 e4 e5 e6 e7
  exact h _ _ _ _ _ _ _ _ _ _ _ _ _ _ _ _ _ _ _ _ _ _ _ _ _ _ _ _ hF
theorem zz_in {k L a b c d : Nat} {o : Nat → Nat} {xr xe : Int32} {xop xar xlo xhi xhv xfr xcm xal xfi xin xnx xaw xtp : Nat → Int32} {ye : Int32} {yall yla yfo yen yfi ytr : Nat → Int32} (h : zz_F L a b c d o xr xe xop xar xlo xhi xhv xal xfi ye yall yen yfi ytr) :
    i_Rel k (nI L, xr, xe, xop, xar, xlo, xhi, xhv, xfr, xcm, xal, xfi, xin, xnx, xaw, xtp) (nI L, xr, ye, xop, xar, xlo, xhi, yall, yla, yfo, yen, yfi, ytr) := ⟨L, a, b, c, d, o, rfl, rfl, rfl, rfl, rfl, rfl, rfl, h⟩
theorem zz_x {L a b c d : Nat} {o : Nat → Nat} {r xe : Int32} {op ar lo hi hv al fi : Nat → Int32} {ye : Int32} {all en yfi tr : Nat → Int32} (h : zz_F L a b c d o r xe op ar lo hi hv al fi ye all en yfi tr) : r = 0 ∨ (r = 1 ∧ xf_K L o ar (xf_I L a b c d) hv al fi xe) := h.2.elim Or.inl (fun z => Or.inr ⟨z.1, z.2.1⟩)
theorem zz_y {L a b c d : Nat} {o : Nat → Nat} {r xe : Int32} {op ar lo hi hv al fi : Nat → Int32} {ye : Int32} {all en yfi tr : Nat → Int32} (h : zz_F L a b c d o r xe op ar lo hi hv al fi ye all en yfi tr) : r = 0 ∨ (r = 1 ∧ yd_K L o ar (xf_I L a b c d) all en yfi ye tr) := h.2.elim Or.inl (fun z => Or.inr ⟨z.1, z.2.2⟩)
theorem zz_q {q q' L : Nat} (hL : L ≤ 16) (hq : q < L) (hq' : q' < L) {p : Int32} (e : p = nI q) (e' : p = nI q') : q' = q := by
  rw [e] at e'
  exact ((nI_eq (by omega) (by omega)).mp e').symm
theorem i_vc0 : wpX_init (fun u => wpY_init (fun v => i_Rel 0 u v)) := by
  refine nm_e (nm_e (nm_e (nm_e ?_)))
  refine ⟨0, 0, 15, 0, 15, fun _ => 0, rfl, rfl, rfl, rfl, rfl, rfl, rfl, ⟨by decide, fun p _ => ⟨rfl, Nat.zero_le _⟩, by decide, by decide, rfl, rfl, rfl, rfl, by decide, by decide⟩, Or.inl rfl⟩

theorem i_vc_emit {k : Nat} {u : SX} {v : SY} (I : i_Rel k u v) (hk : k + 4 ≤ 2048) (v1 : Int32) (v2 : Int32) : wpX_emit (fun r u' => wpY_emit (fun r' v' => r' = r ∧ i_Rel (k + 4) u' v') v v1 v2) u v1 v2 := by
  refine zz_el (P := fun u v => wpX_emit (fun r u' => wpY_emit (fun r' v' => r' = r ∧ i_Rel (k + 4) u' v') v v1 v2) u v1 v2) ?_ I
  intro L a b c d o xr xe xop xar xlo xhi xhv xfr xcm xal xfi xin xnx xaw xtp ye yall yla yfo yen yfi ytr hF
  have hL := hF.1.1
  refine br_c (fun h => br_t h ⟨rfl, zz_in hF⟩) (fun h => br_c (fun h2 => ?_) (fun h2 => br_f h (br_f h2 ⟨rfl, zz_in hF⟩)))
  obtain ⟨j, hj, rfl⟩ := nI_of2 (n := 14) (by decide) h h2
  refine pk_lt L 16 (fun hl => ?_) (fun hl => ?_) rfl rfl (by omega) (by decide)
  · have hi : vp_in (nI L) 16 := vp_in_nI hl (by decide)
    have ne : ¬ nI L = 16 := fun e => by
      have := (nI_eq (a := L) (b := 16) (by omega) (by omega)).mp e
      omega
    rw [nI_clamp (n := L) (by omega)]
    refine ⟨hi, nm_e ⟨hi, nm_e (nm_r (nI_1 L) (br_f h (br_t h2 (br_f ne ?_))))⟩⟩
    rw [nI_clamp (n := L) (by omega)]
    refine ⟨hi, nm_e ⟨hi, nm_e (nm_r (nI_1 L) ⟨rfl, zz_in (L := L + 1) (o := fun p => if p = L then j else o p) ⟨⟨hl, fun p hp => ?_, hF.1.2.2⟩, Or.inl rfl⟩⟩)⟩⟩
    dsimp only
    by_cases e : p = L
    · subst e; rw [pk_us, if_pos rfl]; exact ⟨rfl, hj⟩
    · rw [pk_un e, if_neg e]; exact hF.1.2.1 p hp
  · obtain rfl : L = 16 := by omega
    exact br_f h (br_t h2 (br_t rfl ⟨rfl, zz_in hF⟩))
theorem i_vc_patch {k : Nat} {u : SX} {v : SY} (I : i_Rel k u v) (hk : k + 4 ≤ 2048) (v1 : Int32) (v2 : Int32) : wpX_patch (fun r u' => wpY_patch (fun r' v' => r' = r ∧ i_Rel (k + 4) u' v') v v1 v2) u v1 v2 := by
  refine zz_el (P := fun u v => wpX_patch (fun r u' => wpY_patch (fun r' v' => r' = r ∧ i_Rel (k + 4) u' v') v v1 v2) u v1 v2) ?_ I
  intro L a b c d o xr xe xop xar xlo xhi xhv xfr xcm xal xfi xin xnx xaw xtp ye yall yla yfo yen yfi ytr hF
  have hL := hF.1.1
  unfold wpX_patch wpY_patch
  dsimp only
  refine xb_no _ rfl hL v1 (fun q hq e => br_t rfl ?_) (fun hn => br_f (by decide) (ya_bad _ rfl hL v1 (fun q hq e => absurd ⟨q, hq, e⟩ hn) (fun _ => br_f (by decide) ⟨rfl, zz_in hF⟩)))
  subst e
  have hi : vp_in (nI q) 16 := vp_in_nI (by omega) (by decide)
  rw [nI_clamp (n := q) (by omega)]
  refine ⟨hi, nm_e ⟨hi, nm_e (ya_bad _ rfl hL _ (fun q' hq' e' => br_t rfl ?_) (fun hn => absurd ⟨q, hq, rfl⟩ hn))⟩⟩
  exact ⟨hi, nm_e ⟨hi, nm_e ⟨rfl, zz_in ⟨hF.1, Or.inl rfl⟩⟩⟩⟩
theorem i_vc_begin {k : Nat} {u : SX} {v : SY} (I : i_Rel k u v) (hk : k + 4 ≤ 2048) (v1 : Int32) (v2 : Int32) (v3 : Int32) : wpX_begin (fun r u' => wpY_begin (fun r' v' => r' = r ∧ i_Rel (k + 4) u' v') v v1 v2 v3) u v1 v2 v3 := by
  refine zz_el (P := fun u v => wpX_begin (fun r u' => wpY_begin (fun r' v' => r' = r ∧ i_Rel (k + 4) u' v') v v1 v2 v3) u v1 v2 v3) ?_ I
  intro L a b c d o xr xe xop xar xlo xhi xhv xfr xcm xal xfi xin xnx xaw xtp ye yall yla yfo yen yfi ytr hF
  have hL := hF.1.1
  have same : ∀ r : Int32, r = r ∧ i_Rel (k + 4) (nI L, xr, xe, xop, xar, xlo, xhi, xhv, xfr, xcm, xal, xfi, xin, xnx, xaw, xtp) (nI L, xr, ye, xop, xar, xlo, xhi, yall, yla, yfo, yen, yfi, ytr) := fun r => ⟨rfl, zz_in hF⟩
  refine br_c (fun h1 => br_t h1 (same _)) (fun h1 => br_c (fun h2 => br_f h1 (br_t h2 (same _))) (fun h2 => br_c (fun h3 => br_f h1 (br_f h2 (br_t h3 (same _)))) (fun h3 => br_c (fun h4 => br_f h1 (br_f h2 (br_f h3 (br_t h4 (same _))))) (fun h4 => br_c (fun h5 => ?_) (fun h5 => br_f h1 (br_f h2 (br_f h3 (br_f h4 (br_f h5 (same _))))))))))
  obtain ⟨j, hj, rfl⟩ := nI_of2 (n := 1) (by decide) h1 (Int32.not_lt.mp h2)
  obtain ⟨x, hx, rfl⟩ := nI_of h3
  have h45 := Int32.not_lt.mp h4
  obtain ⟨y, hy, rfl⟩ := nI_of2 (n := 15) (by decide) (x := v3) (fun z => h3 (Int32.lt_of_le_of_lt h45 z)) h5
  have hxy : x ≤ y := (nI_leI hx (by omega)).mp h45
  have hi : vp_in (nI j) 2 := vp_in_nI (by omega) (by decide)
  obtain ⟨_, g2, g3, g4, g5, g6, g7, g8, g9, g10⟩ := hF.1
  rw [nI_clamp (n := j) (by omega)]
  refine ⟨hi, nm_e ⟨hi, nm_e (br_f h1 (br_f h2 (br_f h3 (br_f h4 (br_t h5 ?_)))))⟩⟩
  rw [nI_clamp (n := j) (by omega)]
  refine ⟨hi, nm_e ⟨hi, nm_e ⟨rfl, ?_⟩⟩⟩
  obtain rfl | rfl : j = 0 ∨ j = 1 := by omega
  · exact zz_in (a := x) (b := y) (c := c) (d := d) (o := o) ⟨⟨hL, g2, hy, g4, rfl, rfl, g7, g8, hxy, g10⟩, Or.inl rfl⟩
  · exact zz_in (a := a) (b := b) (c := x) (d := y) (o := o) ⟨⟨hL, g2, g3, hy, g5, g6, rfl, rfl, g9, hxy⟩, Or.inl rfl⟩
theorem i_vc_clear {k : Nat} {u : SX} {v : SY} (I : i_Rel k u v) (hk : k + 4 ≤ 2048) : wpX_clear (fun u' => wpY_clear (fun v' => i_Rel (k + 4) u' v') v) u := by
  refine zz_el (P := fun u v => wpX_clear (fun u' => wpY_clear (fun v' => i_Rel (k + 4) u' v') v) u) ?_ I
  intro L a b c d o xr xe xop xar xlo xhi xhv xfr xcm xal xfi xin xnx xaw xtp ye yall yla yfo yen yfi ytr hF
  have hL := hF.1.1
  unfold wpX_clear wpY_clear
  dsimp only
  exact zz_in (L := 0) (xr := 0) ⟨⟨by decide, hF.1.2⟩, Or.inl rfl⟩
theorem i_vc_states {k : Nat} {u : SX} {v : SY} (I : i_Rel k u v) (hk : k + 4 ≤ 2048) (v1 : Int32) : wpX_states (fun r u' => wpY_states (fun r' v' => r' = r ∧ i_Rel (k + 4) u' v') v v1) u v1 := by
  refine zz_el (P := fun u v => wpX_states (fun r u' => wpY_states (fun r' v' => r' = r ∧ i_Rel (k + 4) u' v') v v1) u v1) ?_ I
  intro L a b c d o xr xe xop xar xlo xhi xhv xfr xcm xal xfi xin xnx xaw xtp ye yall yla yfo yen yfi ytr hF
  have hL := hF.1.1
  refine zx_states _ v1 hF.1 rfl (zz_x hF) (fun hn => zy_states _ v1 hF.1 rfl (zz_y hF) (fun _ => ⟨rfl, zz_in hF⟩) (fun q hq e => absurd ⟨q, hq, e⟩ hn)) (fun q hq e e' hv fr cm al fi ii nx aw tp hK => ?_)
  refine zy_states _ v1 hF.1 rfl (zz_y hF) (fun hn => absurd ⟨q, hq, e⟩ hn) (fun q' hq' eq' f' all la fo en gi tr hK' => ⟨?_, zz_in ⟨hF.1, Or.inr ⟨rfl, hK, hK'⟩⟩⟩)
  obtain rfl := zz_q hL hq hq' e eq'
  rfl
theorem i_vc_possible {k : Nat} {u : SX} {v : SY} (I : i_Rel k u v) (hk : k + 4 ≤ 2048) (v1 : Int32) (v2 : Int32) (v3 : Int32) : wpX_possible (fun r u' => wpY_possible (fun r' v' => r' = r ∧ i_Rel (k + 4) u' v') v v1 v2 v3) u v1 v2 v3 := by
  refine zz_el (P := fun u v => wpX_possible (fun r u' => wpY_possible (fun r' v' => r' = r ∧ i_Rel (k + 4) u' v') v v1 v2 v3) u v1 v2 v3) ?_ I
  intro L a b c d o xr xe xop xar xlo xhi xhv xfr xcm xal xfi xin xnx xaw xtp ye yall yla yfo yen yfi ytr hF
  have hL := hF.1.1
  refine zx_possible _ v1 v2 v3 hF.1 rfl (zz_x hF) (fun hn => zy_possible _ v1 v2 v3 hF.1 rfl (zz_y hF) (fun _ => ⟨rfl, zz_in hF⟩) (fun q x y h1 h2 h3 h4 h5 h6 => absurd ⟨q, x, y, h1, h2, h3, h4, h5, h6⟩ hn)) (fun q x y h1 h2 h3 h4 h5 h6 e' hv fr cm al fi ii nx aw tp hK => ?_)
  refine zy_possible _ v1 v2 v3 hF.1 rfl (zz_y hF) (fun hn => absurd ⟨q, x, y, h1, h2, h3, h4, h5, h6⟩ hn) (fun q' x' y' k1 k2 k3 k4 k5 k6 f' all la fo en gi tr hK' => ⟨?_, zz_in ⟨hF.1, Or.inr ⟨rfl, hK, hK'⟩⟩⟩)
  obtain rfl := zz_q hL h1 k1 h2 k2
  obtain rfl := zz_q (Nat.le_refl 16) h3 k3 h4 k4
  obtain rfl := zz_q (Nat.le_refl 16) h5 k5 h6 k6
  rfl
theorem i_vc_values {k : Nat} {u : SX} {v : SY} (I : i_Rel k u v) (hk : k + 4 ≤ 2048) (v1 : Int32) (v2 : Int32) : wpX_values (fun r u' => wpY_values (fun r' v' => r' = r ∧ i_Rel (k + 4) u' v') v v1 v2) u v1 v2 := by
  refine zz_el (P := fun u v => wpX_values (fun r u' => wpY_values (fun r' v' => r' = r ∧ i_Rel (k + 4) u' v') v v1 v2) u v1 v2) ?_ I
  intro L a b c d o xr xe xop xar xlo xhi xhv xfr xcm xal xfi xin xnx xaw xtp ye yall yla yfo yen yfi ytr hF
  have hL := hF.1.1
  refine zx_values _ v1 v2 hF.1 rfl (zz_x hF) (fun hn => zy_values _ v1 v2 hF.1 rfl (zz_y hF) (fun _ => ⟨rfl, zz_in hF⟩) (fun h => absurd h hn) (fun q hq e => absurd ⟨q, hq, e⟩ hn))
    (fun hp hw => zy_values _ v1 v2 hF.1 rfl (zz_y hF) (fun hn => absurd hp hn) (fun _ _ => ⟨rfl, zz_in hF⟩) (fun q hq e hw' => absurd hw' hw)) (fun q hq e hw m e' hv fr cm al fi ii nx aw tp hK hm => ?_)
  refine zy_values _ v1 v2 hF.1 rfl (zz_y hF) (fun hn => absurd ⟨q, hq, e⟩ hn) (fun _ hw' => absurd hw hw') (fun q' hq' eq' _ m' f' all la fo en gi tr hK' hm' => ⟨?_, zz_in ⟨hF.1, Or.inr ⟨rfl, hK, hK'⟩⟩⟩)
  obtain rfl := zz_q hL hq hq' e eq'
  exact tq_ext fun z => by rw [hm, hm']
theorem i_vc_traps {k : Nat} {u : SX} {v : SY} (I : i_Rel k u v) (hk : k + 4 ≤ 2048) (v1 : Int32) : wpX_traps (fun r u' => wpY_traps (fun r' v' => r' = r ∧ i_Rel (k + 4) u' v') v v1) u v1 := by
  refine zz_el (P := fun u v => wpX_traps (fun r u' => wpY_traps (fun r' v' => r' = r ∧ i_Rel (k + 4) u' v') v v1) u v1) ?_ I
  intro L a b c d o xr xe xop xar xlo xhi xhv xfr xcm xal xfi xin xnx xaw xtp ye yall yla yfo yen yfi ytr hF
  have hL := hF.1.1
  refine zx_traps _ v1 hF.1 rfl (zz_x hF) (fun hn => zy_traps _ v1 hF.1 rfl (zz_y hF) (fun _ => ⟨rfl, zz_in hF⟩) (fun q hq e => absurd ⟨q, hq, e⟩ hn)) (fun q hq e e' hv fr cm al fi ii nx aw tp hK => ?_)
  refine zy_traps _ v1 hF.1 rfl (zz_y hF) (fun hn => absurd ⟨q, hq, e⟩ hn) (fun q' hq' eq' f' all la fo en gi tr hK' => ⟨?_, zz_in ⟨hF.1, Or.inr ⟨rfl, hK, hK'⟩⟩⟩)
  obtain rfl := zz_q hL hq hq' e eq'
  rfl
theorem i_vc_safe {k : Nat} {u : SX} {v : SY} (I : i_Rel k u v) (hk : k + 4 ≤ 2048) : wpX_safe (fun r u' => wpY_safe (fun r' v' => r' = r ∧ i_Rel (k + 4) u' v') v) u := by
  refine zz_el (P := fun u v => wpX_safe (fun r u' => wpY_safe (fun r' v' => r' = r ∧ i_Rel (k + 4) u' v') v) u) ?_ I
  intro L a b c d o xr xe xop xar xlo xhi xhv xfr xcm xal xfi xin xnx xaw xtp ye yall yla yfo yen yfi ytr hF
  have hL := hF.1.1
  refine zx_safe _ hF.1 rfl (zz_x hF) (fun e' hv fr cm al fi ii nx aw tp hK => ?_)
  refine zy_safe _ hF.1 rfl (zz_y hF) (fun f' all la fo en gi tr hK' => ⟨?_, zz_in ⟨hF.1, Or.inr ⟨rfl, hK, hK'⟩⟩⟩)
  rfl
theorem i_vc_soonest {k : Nat} {u : SX} {v : SY} (I : i_Rel k u v) (hk : k + 4 ≤ 2048) (v1 : Int32) : wpX_soonest (fun r u' => wpY_soonest (fun r' v' => r' = r ∧ i_Rel (k + 4) u' v') v v1) u v1 := by
  refine zz_el (P := fun u v => wpX_soonest (fun r u' => wpY_soonest (fun r' v' => r' = r ∧ i_Rel (k + 4) u' v') v v1) u v1) ?_ I
  intro L a b c d o xr xe xop xar xlo xhi xhv xfr xcm xal xfi xin xnx xaw xtp ye yall yla yfo yen yfi ytr hF
  have hL := hF.1.1
  refine zx_soonest _ v1 hF.1 rfl (zz_x hF) (fun hn => zy_soonest _ v1 hF.1 rfl (zz_y hF) (fun _ => ⟨rfl, zz_in hF⟩) (fun q hq e => absurd ⟨q, hq, e⟩ hn)) (fun q hq e e' hv fr cm al fi ii nx aw tp hK => ?_)
  refine zy_soonest _ v1 hF.1 rfl (zz_y hF) (fun hn => absurd ⟨q, hq, e⟩ hn) (fun q' hq' eq' f' all la fo en gi tr hK' => ⟨?_, zz_in ⟨hF.1, Or.inr ⟨rfl, hK, hK'⟩⟩⟩)
  obtain rfl := zz_q hL hq hq' e eq'
  exact tl_1u (hK'.1.2.1 q' (by omega)) (hK.2.1 q' (by omega))
theorem i_vc_canEnd {k : Nat} {u : SX} {v : SY} (I : i_Rel k u v) (hk : k + 4 ≤ 2048) : wpX_canEnd (fun r u' => wpY_canEnd (fun r' v' => r' = r ∧ i_Rel (k + 4) u' v') v) u := by
  refine zz_el (P := fun u v => wpX_canEnd (fun r u' => wpY_canEnd (fun r' v' => r' = r ∧ i_Rel (k + 4) u' v') v) u) ?_ I
  intro L a b c d o xr xe xop xar xlo xhi xhv xfr xcm xal xfi xin xnx xaw xtp ye yall yla yfo yen yfi ytr hF
  have hL := hF.1.1
  refine zx_canEnd _ hF.1 rfl (zz_x hF) (fun e' hv fr cm al fi ii nx aw tp hK => ?_)
  refine zy_canEnd _ hF.1 rfl (zz_y hF) (fun f' all la fo en gi tr hK' => ⟨?_, zz_in ⟨hF.1, Or.inr ⟨rfl, hK, hK'⟩⟩⟩)
  have h1 := hK.2.2.2.1
  have h2 := hK'.1.2.2.2.1
  rcases hK.2.2.1 with z | z <;> rcases hK'.1.2.2.1 with w | w
  · rw [z, w]
  · exact absurd (h1.mpr (h2.mp w)) (by rw [z]; decide)
  · exact absurd (h2.mpr (h1.mp z)) (by rw [w]; decide)
  · rw [z, w]
theorem i_vc_canRunForever {k : Nat} {u : SX} {v : SY} (I : i_Rel k u v) (hk : k + 4 ≤ 2048) : wpX_canRunForever (fun r u' => wpY_canRunForever (fun r' v' => r' = r ∧ i_Rel (k + 4) u' v') v) u := by
  refine zz_el (P := fun u v => wpX_canRunForever (fun r u' => wpY_canRunForever (fun r' v' => r' = r ∧ i_Rel (k + 4) u' v') v) u) ?_ I
  intro L a b c d o xr xe xop xar xlo xhi xhv xfr xcm xal xfi xin xnx xaw xtp ye yall yla yfo yen yfi ytr hF
  have hL := hF.1.1
  refine zx_forever _ hF.1 rfl (zz_x hF) (fun e' hv fr cm al fi ii nx aw tp hK => ?_)
  refine zy_forever _ hF.1 rfl (zz_y hF) (fun f' all la fo en gi tr hK' => ⟨?_, zz_in ⟨hF.1, Or.inr ⟨rfl, hK, hK'⟩⟩⟩)
  have e : tq_N (xd_S en) = tq_N (xd_S al) := tq_N_c fun i _ y _ => tl_BG_u hK'.1.2.2.2.2.1 hK'.1.2.2.2.2.2 hK.2.2.2.2.1 hK.2.2.2.2.2 i y
  rw [e]
theorem i_vc_endless {k : Nat} {u : SX} {v : SY} (I : i_Rel k u v) (hk : k + 4 ≤ 2048) : wpX_endless (fun r u' => wpY_endless (fun r' v' => r' = r ∧ i_Rel (k + 4) u' v') v) u := by
  refine zz_el (P := fun u v => wpX_endless (fun r u' => wpY_endless (fun r' v' => r' = r ∧ i_Rel (k + 4) u' v') v) u) ?_ I
  intro L a b c d o xr xe xop xar xlo xhi xhv xfr xcm xal xfi xin xnx xaw xtp ye yall yla yfo yen yfi ytr hF
  have hL := hF.1.1
  refine zx_endless _ hF.1 rfl (zz_x hF) (fun e' hv fr cm al fi ii nx aw tp hK => ?_)
  refine zy_endless _ hF.1 rfl (zz_y hF) (fun f' all la fo en gi tr hK' => ⟨?_, zz_in ⟨hF.1, Or.inr ⟨rfl, hK, hK'⟩⟩⟩)
  have e : tq_N (xd_S en) = tq_N (xd_S al) := tq_N_c fun i _ y _ => tl_BG_u hK'.1.2.2.2.2.1 hK'.1.2.2.2.2.2 hK.2.2.2.2.1 hK.2.2.2.2.2 i y
  rw [e]
end
