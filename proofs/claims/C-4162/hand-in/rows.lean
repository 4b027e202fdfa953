section
theorem pk_us {f : Nat → Int32} {k : Nat} {x : Int32} : upd f k x k = x := if_pos rfl
theorem pk_un {f : Nat → Int32} {k j : Nat} {x : Int32} (h : j ≠ k) : upd f k x j = f j := if_neg h
theorem pk_sub {a b : Nat} (h : b ≤ a) : nI a - nI b = nI (a - b) := by
  obtain ⟨c, rfl⟩ : ∃ c, a = c + b := ⟨a - b, by omega⟩
  rw [← nI_add, Int32.add_sub_cancel, Nat.add_sub_cancel]
theorem pk_m1 (n : Nat) : nI (n + 1) + (-1) = nI n := by
  rw [← nI_1, Int32.add_assoc, show (1 : Int32) + (-1) = 0 from rfl, Int32.add_zero]
theorem pk_mul (a b : Nat) : nI a * nI b = nI (a * b) := (Int32.ofNat_mul a b).symm
theorem pk_div {a d : Nat} (ha : a < 2 ^ 31) (h0 : 0 < d) (hd : d < 2 ^ 31) : nI a / nI d = nI (a / d) := by
  apply Int32.toInt_inj.mp
  rw [lg_idiv_nonneg (by rw [nI_toInt ha]; omega) (by rw [nI_toInt hd]; omega), nI_toInt ha, nI_toInt hd, nI_toInt (Nat.lt_of_le_of_lt (Nat.div_le_self a d) ha)]
  first | rfl | exact (Int.natCast_ediv _ _).symm
theorem pk_rem {a d : Nat} (ha : a < 2 ^ 31) (h0 : 0 < d) (hd : d < 2 ^ 31) : nI a - nI a / nI d * nI d = nI (a % d) := by
  rw [pk_div ha h0 hd, pk_mul, pk_sub (Nat.div_mul_le_self a d)]
  exact congrArg nI (by have := Nat.div_add_mod' a d; omega)
theorem pk_ix (x : Int32) {n : Nat} (hn : n < 2 ^ 31) : x < 0 ∨ nI n ≤ x ∨ ∃ j : Nat, j < n ∧ x = nI j := by
  by_cases h : x < 0
  · exact Or.inl h
  · obtain ⟨j, hj, rfl⟩ := nI_of h
    by_cases h2 : j < n
    · exact Or.inr (Or.inr ⟨j, h2, rfl⟩)
    · exact Or.inr (Or.inl (nI_le (by omega) hj))
theorem pk_le {x y : Int32} {A B : Prop} (a b : Nat) (f : a ≤ b → A) (g : b < a → B) (hx : x = nI a := by rfl) (hy : y = nI b := by rfl) (ha : a < 2 ^ 31 := by omega) (hb : b < 2 ^ 31 := by omega) : (x ≤ y → A) ∧ (¬ x ≤ y → B) := by
  subst hx hy
  rw [nI_leI ha hb]
  exact ⟨f, fun z => g (by omega)⟩
theorem pk_lt {x y : Int32} {A B : Prop} (a b : Nat) (f : a < b → A) (g : b ≤ a → B) (hx : x = nI a := by rfl) (hy : y = nI b := by rfl) (ha : a < 2 ^ 31 := by omega) (hb : b < 2 ^ 31 := by omega) : (x < y → A) ∧ (¬ x < y → B) := by
  subst hx hy
  rw [nI_ltI ha hb]
  exact ⟨f, fun z => g (by omega)⟩
theorem pk_eq {x y : Int32} {A B : Prop} (a b : Nat) (f : a = b → A) (g : a ≠ b → B) (hx : x = nI a := by rfl) (hy : y = nI b := by rfl) (ha : a < 2 ^ 31 := by omega) (hb : b < 2 ^ 31 := by omega) : (x = y → A) ∧ (¬ x = y → B) := by
  subst hx hy
  rw [nI_eq ha hb]
  exact ⟨f, g⟩
theorem pk_in {x : Int32} (n N : Nat) (h : n < N) (hx : x = nI n := by rfl) (hN : N < 2 ^ 31 := by omega) : vp_in x N := by
  subst hx
  exact vp_in_nI h hN
theorem pk_cl {x : Int32} (n : Nat) (hx : x = nI n := by rfl) (h : n < 2 ^ 31 := by omega) : x.toNatClampNeg = n := by
  subst hx
  exact nI_clamp h
def bt (x : Int32) (i : Nat) : Bool := x.toBitVec.getLsbD i
theorem b_ext {x y : Int32} (h : ∀ i, i < 32 → bt x i = bt y i) : x = y := Int32.toBitVec_inj.mp (BitVec.eq_of_getLsbD_eq (fun i hi => h i hi))
theorem b_or (x y : Int32) (i : Nat) : bt (x ||| y) i = (bt x i || bt y i) := by unfold bt; rw [Int32.toBitVec_or, BitVec.getLsbD_or]
theorem b_and (x y : Int32) (i : Nat) : bt (x &&& y) i = (bt x i && bt y i) := by unfold bt; rw [Int32.toBitVec_and, BitVec.getLsbD_and]
theorem b_xor (x y : Int32) (i : Nat) : bt (x ^^^ y) i = (bt x i ^^ bt y i) := by unfold bt; rw [Int32.toBitVec_xor, BitVec.getLsbD_xor]
theorem b_big {x : Int32} {i : Nat} (h : 32 ≤ i) : bt x i = false := BitVec.getLsbD_of_ge _ _ h
theorem b_255 (i : Nat) : bt 255 i = decide (i < 8) := by
  rcases Nat.lt_or_ge i 32 with h | h
  · exact (by decide +kernel : ∀ i, i < 32 → bt 255 i = decide (i < 8)) i h
  · rw [b_big h, decide_eq_false (by omega)]
theorem b_m1 : ∀ i, i < 32 → bt (-1) i = true := by decide +kernel
theorem b_0 (i : Nat) : bt 0 i = false := BitVec.getLsbD_zero
theorem s_l : ∀ n, n < 32 → ((nI n &&& 31).toBitVec.smod 32).toNat = n := by decide +kernel
theorem s_u : ∀ n, n < 32 → (((nI n).toUInt32 &&& Int32.toUInt32 31).toBitVec % 32).toNat = n := by decide +kernel
theorem b_shl (n : Nat) (hn : n < 32) (x : Int32) {i : Nat} (hi : i < 32) : bt (x <<< (nI n &&& 31)) i = (decide (n ≤ i) && bt x (i - n)) := by
  unfold bt
  rw [Int32.toBitVec_shiftLeft]
  show (x.toBitVec <<< ((nI n &&& 31).toBitVec.smod 32).toNat).getLsbD i = _
  rw [s_l n hn, BitVec.getLsbD_shiftLeft]
  rcases Nat.lt_or_ge i n with h | h
  · simp [h, Nat.not_le.mpr h]
  · simp [hi, h, Nat.not_lt.mpr h]
theorem b_ushr (n : Nat) (hn : n < 32) (x : Int32) (i : Nat) : bt ((x.toUInt32 >>> ((nI n).toUInt32 &&& Int32.toUInt32 31)).toInt32) i = bt x (n + i) := by
  show (x.toUInt32 >>> ((nI n).toUInt32 &&& Int32.toUInt32 31)).toBitVec.getLsbD i = x.toUInt32.toBitVec.getLsbD (n + i)
  rw [UInt32.toBitVec_shiftRight]
  show (x.toUInt32.toBitVec >>> (((nI n).toUInt32 &&& Int32.toUInt32 31).toBitVec % 32).toNat).getLsbD i = _
  rw [s_u n hn, BitVec.getLsbD_ushiftRight]
theorem b_sshr (n : Nat) (hn : n < 32) (x : Int32) {i : Nat} (hi : i < 32) : bt (x >>> (nI n &&& 31)) i = if n + i < 32 then bt x (n + i) else bt x 31 := by
  unfold bt
  rw [Int32.toBitVec_shiftRight]
  show (x.toBitVec.sshiftRight ((nI n &&& 31).toBitVec.smod 32).toNat).getLsbD i = _
  rw [s_l n hn, BitVec.getLsbD_sshiftRight, BitVec.msb_eq_getLsbD_last]
  simp [hi]
end
section
/-! single bits: tests by either shift, one bit set, inclusion, stores -/
theorem cc_b1 (i : Nat) : bt 1 i = decide (i = 0) := by
  rcases Nat.lt_or_ge i 32 with h | h
  · exact (by decide +kernel : ∀ i, i < 32 → bt 1 i = decide (i = 0)) i h
  · rw [b_big h, decide_eq_false (by omega)]
theorem cc_vu {x : Int32} {j : Nat} (hj : j < 32) : (((x.toUInt32 >>> ((nI j).toUInt32 &&& Int32.toUInt32 31)).toInt32) &&& 1) = if bt x j = true then 1 else 0 := by
  apply b_ext
  intro i hi
  rw [b_and, b_ushr j hj, cc_b1]
  by_cases h : i = 0
  · subst h
    cases hb : bt x j
    · simp [hb, b_0]
    · simp [hb, cc_b1]
  · cases hb : bt x j
    · simp [h, b_0]
    · simp [h, cc_b1]
theorem cc_vs {x : Int32} {j : Nat} (hj : j < 32) : ((x >>> (nI j &&& 31)) &&& 1) = if bt x j = true then 1 else 0 := by
  apply b_ext
  intro i hi
  rw [b_and, b_sshr j hj _ hi, cc_b1]
  by_cases h : i = 0
  · subst h
    cases hb : bt x j
    · simp [hb, b_0, hj]
    · simp [hb, cc_b1, hj]
  · cases hb : bt x j
    · simp [h, b_0]
    · simp [h, cc_b1]
theorem cc_ite0 {b : Bool} : (if b = true then (1 : Int32) else 0) = 0 ↔ b = false := by
  cases b
  · simp
  · simp
theorem cc_ite1 {b : Bool} : (if b = true then (1 : Int32) else 0) = 1 ↔ b = true := by
  cases b
  · simp
  · simp
theorem cc_nf {b : Bool} (h : ¬ b = false) : b = true := by cases b <;> simp_all
theorem cc_nt {b : Bool} (h : ¬ b = true) : b = false := by cases b <;> simp_all
theorem cc_bu {x : Int32} {j : Nat} {A B : Prop} (hj : j < 32) (f : bt x j = false → A) (g : bt x j = true → B) : ((((x.toUInt32 >>> ((nI j).toUInt32 &&& Int32.toUInt32 31)).toInt32) &&& 1) = 0 → A) ∧ (¬ (((x.toUInt32 >>> ((nI j).toUInt32 &&& Int32.toUInt32 31)).toInt32) &&& 1) = 0 → B) := by
  rw [cc_vu hj, cc_ite0]
  exact ⟨f, fun z => g (cc_nf z)⟩
theorem cc_bs0 {x : Int32} {j : Nat} {A B : Prop} (hj : j < 32) (f : bt x j = false → A) (g : bt x j = true → B) : (((x >>> (nI j &&& 31)) &&& 1) = 0 → A) ∧ (¬ ((x >>> (nI j &&& 31)) &&& 1) = 0 → B) := by
  rw [cc_vs hj, cc_ite0]
  exact ⟨f, fun z => g (cc_nf z)⟩
theorem cc_bs1 {x : Int32} {j : Nat} {A B : Prop} (hj : j < 32) (f : bt x j = true → A) (g : bt x j = false → B) : (((x >>> (nI j &&& 31)) &&& 1) = 1 → A) ∧ (¬ ((x >>> (nI j &&& 31)) &&& 1) = 1 → B) := by
  rw [cc_vs hj, cc_ite1]
  exact ⟨f, fun z => g (cc_nt z)⟩
theorem cc_bit {j : Nat} (hj : j < 32) (i : Nat) : bt ((1 : Int32) <<< (nI j &&& 31)) i = decide (i = j) := by
  rcases Nat.lt_or_ge i 32 with h | h
  · rw [b_shl j hj _ h, cc_b1, Bool.eq_iff_iff]
    simp only [Bool.and_eq_true, decide_eq_true_eq]
    omega
  · rw [b_big h, decide_eq_false (by omega)]
theorem cc_lt32 {x : Int32} {i : Nat} (h : bt x i = true) : i < 32 := by
  rcases Nat.lt_or_ge i 32 with h1 | h1
  · exact h1
  · rw [b_big h1] at h; cases h
theorem cc_sub {x y : Int32} : (x &&& (y ^^^ (-1))) = 0 ↔ ∀ i, bt x i = true → bt y i = true := by
  constructor
  · intro h i hi
    have hl := cc_lt32 hi
    have e : bt (x &&& (y ^^^ (-1))) i = bt 0 i := by rw [h]
    rw [b_and, b_xor, b_m1 i hl, b_0, hi] at e
    cases hy : bt y i
    · rw [hy] at e; cases e
    · rfl
  · intro h
    apply b_ext
    intro i hi
    rw [b_and, b_xor, b_m1 i hi, b_0]
    cases hx : bt x i
    · rfl
    · rw [h i hx]; rfl
theorem cc_bsub {x y : Int32} {A B : Prop} (f : (∀ i, bt x i = true → bt y i = true) → A) (g : ¬ (∀ i, bt x i = true → bt y i = true) → B) : ((x &&& (y ^^^ (-1))) = 0 → A) ∧ (¬ (x &&& (y ^^^ (-1))) = 0 → B) := by
  rw [cc_sub]
  exact ⟨f, g⟩
theorem cc_orc (x y : Int32) : x ||| y = y ||| x := by
  apply b_ext
  intro i _
  rw [b_or, b_or, Bool.or_comm]
theorem cc_or0 (x : Int32) : x ||| 0 = x := by
  apply b_ext
  intro i _
  rw [b_or, b_0, Bool.or_false]
theorem cc_upd2 (f : Nat → Int32) (k : Nat) (x y : Int32) : upd (upd f k x) k y = upd f k y := by
  funext j
  unfold upd
  by_cases h : j = k
  · rw [if_pos h, if_pos h]
  · rw [if_neg h, if_neg h, if_neg h]
theorem cc_updid (f : Nat → Int32) (k : Nat) : upd f k (f k) = f := by
  funext j
  unfold upd
  by_cases h : j = k
  · rw [if_pos h, h]
  · rw [if_neg h]
theorem cc_bn {k j : Nat} (hj : j < 32) : bt (nI k) j = k.testBit j := by
  show (BitVec.ofNat 32 k).getLsbD j = _
  rw [BitVec.getLsbD_ofNat]
  simp [hj]
theorem cc_bneg : ∀ j, j < 32 → ¬ nI j = -1 := by decide +kernel
theorem cc_m1lt : (-1 : Int32) < 0 := by decide
/-- the number of places below n where p holds -/
def cc_cnt (p : Nat → Bool) : Nat → Nat
  | 0 => 0
  | n + 1 => cc_cnt p n + (if p n = true then 1 else 0)
theorem cc_cnt_le (p : Nat → Bool) : ∀ n, cc_cnt p n ≤ n := by
  intro n
  induction n with
  | zero => exact Nat.le_refl 0
  | succ n ih => unfold cc_cnt; split <;> omega
theorem cc_cnt_mono {p q : Nat → Bool} : ∀ n, (∀ i, i < n → p i = true → q i = true) → cc_cnt p n ≤ cc_cnt q n := by
  intro n
  induction n with
  | zero => intro _; exact Nat.le_refl 0
  | succ n ih =>
    intro h
    have h1 := ih (fun i hi => h i (by omega))
    have h2 := h n (by omega)
    unfold cc_cnt
    cases hp : p n
    · simp; omega
    · rw [h2 hp]; simp; omega
theorem cc_cnt_lt {p q : Nat → Bool} : ∀ n, (∀ i, i < n → p i = true → q i = true) → ∀ k, k < n → p k = false → q k = true → cc_cnt p n < cc_cnt q n := by
  intro n
  induction n with
  | zero => intro _ k hk; omega
  | succ n ih =>
    intro h k hk hp hq
    unfold cc_cnt
    by_cases e : k = n
    · subst e
      have h1 := cc_cnt_mono k (fun i hi => h i (by omega))
      rw [hp, hq]; simp; omega
    · have h1 := ih (fun i hi => h i (by omega)) k (by omega) hp hq
      have h2 := h n (by omega)
      cases hpn : p n
      · simp; omega
      · rw [h2 hpn]; simp; omega
/-- how many of the 8 x 7 bits are wanting -/
def cc_D (M : Nat → Int32) : Nat := cc_cnt (fun k => !(bt (M (k / 7)) (k % 7))) 56
theorem cc_D56 (M : Nat → Int32) : cc_D M ≤ 56 := cc_cnt_le _ _
theorem cc_Dlt {M N : Nat → Int32} (h : ∀ a b, bt (M a) b = true → bt (N a) b = true) {a b : Nat} (ha : a < 8) (hb : b < 7) (hm : bt (M a) b = false) (hn : bt (N a) b = true) : cc_D N < cc_D M := by
  unfold cc_D
  have e1 : (7 * a + b) / 7 = a := by omega
  have e2 : (7 * a + b) % 7 = b := by omega
  refine cc_cnt_lt 56 (fun i _ hi => ?_) (7 * a + b) (by omega) (by simp only [e1, e2, hn]; rfl) (by simp only [e1, e2, hm]; rfl)
  cases hx : bt (M (i / 7)) (i % 7)
  · rfl
  · rw [h _ _ hx] at hi; exact hi
end
section
/-! lists with the latest first: respect of a relation, place in the list, linear extensions -/
def cc_rs (R : Nat → Nat → Prop) : List Nat → Prop
  | [] => True
  | x :: L => cc_rs R L ∧ ∀ a, a ∈ L → ¬ R x a
/-- a stands before b (b nearer to the head) -/
def cc_bf : List Nat → Nat → Nat → Prop
  | [], _, _ => False
  | x :: L, a, b => (b = x ∧ a ∈ L) ∨ cc_bf L a b
theorem cc_bf_mem : ∀ L a b, cc_bf L a b → a ∈ L ∧ b ∈ L := by
  intro L
  induction L with
  | nil => intro a b h; exact h.elim
  | cons x L ih =>
    intro a b h
    rcases h with ⟨e, h⟩ | h
    · exact ⟨List.mem_cons_of_mem _ h, by rw [e]; exact List.mem_cons_self⟩
    · obtain ⟨h1, h2⟩ := ih a b h
      exact ⟨List.mem_cons_of_mem _ h1, List.mem_cons_of_mem _ h2⟩
theorem cc_bf_tr : ∀ L, L.Nodup → ∀ a b d, cc_bf L a b → cc_bf L b d → cc_bf L a d := by
  intro L
  induction L with
  | nil => intro _ a b d h; exact h.elim
  | cons x L ih =>
    intro hn a b d h1 h2
    obtain ⟨hx, hn⟩ := List.nodup_cons.mp hn
    rcases h1 with ⟨e1, h1⟩ | h1
    · subst e1
      rcases h2 with ⟨e2, h2⟩ | h2
      · exact absurd h2 hx
      · exact absurd (cc_bf_mem _ _ _ h2).1 hx
    · rcases h2 with ⟨e2, h2⟩ | h2
      · exact Or.inl ⟨e2, (cc_bf_mem _ _ _ h1).1⟩
      · exact Or.inr (ih hn a b d h1 h2)
theorem cc_bf_ir : ∀ L, L.Nodup → ∀ a, ¬ cc_bf L a a := by
  intro L
  induction L with
  | nil => intro _ a h; exact h
  | cons x L ih =>
    intro hn a h
    obtain ⟨hx, hn⟩ := List.nodup_cons.mp hn
    rcases h with ⟨e, h⟩ | h
    · subst e; exact hx h
    · exact ih hn a h
theorem cc_bf_tot : ∀ L a b, a ∈ L → b ∈ L → a ≠ b → cc_bf L a b ∨ cc_bf L b a := by
  intro L
  induction L with
  | nil => intro a b h; cases h
  | cons x L ih =>
    intro a b ha hb hab
    rcases List.mem_cons.mp ha with e1 | h1
    · rcases List.mem_cons.mp hb with e2 | h2
      · exact absurd (e1.trans e2.symm) hab
      · exact Or.inr (Or.inl ⟨e1, h2⟩)
    · rcases List.mem_cons.mp hb with e2 | h2
      · exact Or.inl (Or.inl ⟨e2, h1⟩)
      · rcases ih a b h1 h2 hab with h | h
        · exact Or.inl (Or.inr h)
        · exact Or.inr (Or.inr h)
/-- what a list respects: a before b in the list excludes R b a -/
theorem cc_rs_bf {R : Nat → Nat → Prop} : ∀ L, cc_rs R L → ∀ a b, cc_bf L a b → ¬ R b a := by
  intro L
  induction L with
  | nil => intro _ a b h; exact h.elim
  | cons x L ih =>
    intro hr a b h
    rcases h with ⟨e, h⟩ | h
    · subst e; exact hr.2 a h
    · exact ih hr.1 a b h
/-- the first that matches, when all others that match are related to it -/
theorem cc_f1 {R : Nat → Nat → Prop} {p : Nat → Bool} {s : Nat} : ∀ L, cc_rs R L → s ∈ L → p s = true → (∀ w, w ∈ L → p w = true → w ≠ s → R w s) → L.find? p = some s := by
  intro L
  induction L with
  | nil => intro _ h; cases h
  | cons x L ih =>
    intro hr hs hp h
    cases hx : p x
    · rw [List.find?_cons_of_neg (by rw [hx]; decide)]
      rcases List.mem_cons.mp hs with e | hs
      · subst e; rw [hp] at hx; cases hx
      · exact ih hr.1 hs hp (fun w hw => h w (List.mem_cons_of_mem _ hw))
    · rw [List.find?_cons_of_pos hx]
      by_cases e : x = s
      · rw [e]
      · rcases List.mem_cons.mp hs with e2 | hs
        · exact absurd e2.symm e
        · exact absurd (h x List.mem_cons_self hx e) (hr.2 s hs)
/-- what matches stands before the one that is found -/
theorem cc_f2 {p : Nat → Bool} {s : Nat} : ∀ L, L.find? p = some s → s ∈ L ∧ p s = true ∧ ∀ w, w ∈ L → p w = true → w = s ∨ cc_bf L w s := by
  intro L
  induction L with
  | nil => intro h; cases h
  | cons x L ih =>
    intro h
    cases hx : p x
    · rw [List.find?_cons_of_neg (by rw [hx]; decide)] at h
      obtain ⟨h1, h2, h3⟩ := ih h
      refine ⟨List.mem_cons_of_mem _ h1, h2, fun w hw hp => ?_⟩
      rcases List.mem_cons.mp hw with e | hw
      · subst e; rw [hp] at hx; cases hx
      · rcases h3 w hw hp with e | h4
        · exact Or.inl e
        · exact Or.inr (Or.inr h4)
    · rw [List.find?_cons_of_pos hx] at h
      cases h
      refine ⟨List.mem_cons_self, hx, fun w hw hp => ?_⟩
      rcases List.mem_cons.mp hw with e | hw
      · exact Or.inl e
      · exact Or.inr (Or.inl ⟨rfl, hw⟩)
theorem cc_f0 {p : Nat → Bool} {L : List Nat} (h : L.find? p = none) {w : Nat} (hw : w ∈ L) : p w = false := by
  exact cc_nt (List.find?_eq_none.mp h w hw)
theorem cc_f0' {p : Nat → Bool} {L : List Nat} (h : ∀ w, w ∈ L → p w = false) : L.find? p = none := by
  rw [List.find?_eq_none]
  intro w hw hp
  rw [h w hw] at hp
  cases hp
theorem cc_max {R : Nat → Nat → Prop} (ht : ∀ a b d, R a b → R b d → R a d) (hi : ∀ a, ¬ R a a) : ∀ P : List Nat, ∀ x, ∃ m, m ∈ x :: P ∧ ∀ y, y ∈ x :: P → ¬ R m y := by
  intro P
  induction P with
  | nil =>
    intro x
    refine ⟨x, List.mem_cons_self, fun y hy => ?_⟩
    rcases List.mem_cons.mp hy with e | hy
    · rw [e]; exact hi x
    · cases hy
  | cons z P ih =>
    intro x
    obtain ⟨m, hm, h⟩ := ih z
    by_cases c : R m x
    · refine ⟨x, List.mem_cons_self, fun y hy => ?_⟩
      rcases List.mem_cons.mp hy with e | hy
      · rw [e]; exact hi x
      · intro hxy; exact h y hy (ht _ _ _ c hxy)
    · refine ⟨m, List.mem_cons_of_mem _ hm, fun y hy => ?_⟩
      rcases List.mem_cons.mp hy with e | hy
      · rw [e]; exact c
      · exact h y hy
theorem cc_lin {R : Nat → Nat → Prop} (ht : ∀ a b d, R a b → R b d → R a d) (hi : ∀ a, ¬ R a a) : ∀ n, ∀ P : List Nat, P.length = n → P.Nodup → ∃ L : List Nat, L.Nodup ∧ (∀ a, a ∈ L ↔ a ∈ P) ∧ cc_rs R L := by
  intro n
  induction n with
  | zero =>
    intro P hl _
    cases P with
    | nil => exact ⟨[], List.nodup_nil, fun a => Iff.rfl, trivial⟩
    | cons x P => simp at hl
  | succ n ih =>
    intro P hl hn
    cases P with
    | nil => simp at hl
    | cons x P =>
      obtain ⟨m, hm, h⟩ := cc_max ht hi P x
      obtain ⟨L, h1, h2, h3⟩ := ih ((x :: P).erase m) (by rw [List.length_erase_of_mem hm, hl]; rfl) (hn.erase m)
      refine ⟨m :: L, List.nodup_cons.mpr ⟨?_, h1⟩, fun a => ?_, h3, fun a ha => ?_⟩
      · intro hc
        rw [h2, hn.mem_erase_iff] at hc
        exact hc.1 rfl
      · rw [List.mem_cons, h2, hn.mem_erase_iff]
        constructor
        · rintro (e | ⟨_, h⟩)
          · rw [e]; exact hm
          · exact h
        · intro ha
          by_cases e : a = m
          · exact Or.inl e
          · exact Or.inr ⟨e, ha⟩
      · rw [h2, hn.mem_erase_iff] at ha
        exact h a ha.2
theorem cc_rs_app {R : Nat → Nat → Prop} : ∀ L1 L2 x, cc_rs R (L1 ++ x :: L2) → cc_rs R (x :: L2) ∧ ∀ a, a ∈ L1 → ¬ R a x := by
  intro L1
  induction L1 with
  | nil => intro L2 x h; exact ⟨h, fun a ha => by cases ha⟩
  | cons y L1 ih =>
    intro L2 x h
    obtain ⟨h1, h2⟩ := ih L2 x h.1
    refine ⟨h1, fun a ha => ?_⟩
    rcases List.mem_cons.mp ha with e | ha
    · rw [e]; exact h.2 x (List.mem_append_right _ List.mem_cons_self)
    · exact h2 a ha
end
section
/-! the history as a mathematical thing; rows of a past; the weak and the strong rule -/
/-- a is before b -/
abbrev cc_h (E : Nat → Int32) (a b : Nat) : Prop := bt (E b) a = true
/-- a is in the past of o, or o itself -/
def cc_p (E : Nat → Int32) (o a : Nat) : Prop := cc_h E a o ∨ a = o
def cc_WF (c : Nat) (U C W S E : Nat → Int32) : Prop := ∀ i, i < c → (C i = 0 ∨ C i = 1) ∧ (W i = 0 → S i = -1 ∨ ∃ s, s < i ∧ S i = nI s ∧ ¬ W s = 0 ∧ C s = C i ∧ cc_h E s i) ∧ (∀ a, cc_h E a i → a < i) ∧ (∀ a b, cc_h E a i → cc_h E b a → cc_h E b i) ∧ (∀ a, a < i → U a = U i → cc_h E a i)
def cc_src (S : Nat → Int32) (r : Nat) : Option Nat := if 0 ≤ S r then some (S r).toNatClampNeg else none
theorem cc_src_m {S : Nat → Int32} {r : Nat} (h : S r = -1) : cc_src S r = none := by
  unfold cc_src
  rw [h]
  rfl
theorem cc_src_n {S : Nat → Int32} {r s : Nat} (h : S r = nI s) (hs : s < 2 ^ 31) : cc_src S r = some s := by
  unfold cc_src
  rw [h, if_pos (nI_pos' hs), nI_clamp hs]
def cc_m (C W : Nat → Int32) (cell : Int32) (a : Nat) : Bool := decide (¬ W a = 0 ∧ C a = cell)
theorem cc_m_t {C W : Nat → Int32} {cell : Int32} {a : Nat} : cc_m C W cell a = true ↔ ¬ W a = 0 ∧ C a = cell := by
  unfold cc_m
  rw [decide_eq_true_eq]
def cc_ok (C W S E : Nat → Int32) (o : Nat) (mu : Nat → Prop) : List Nat → Prop
  | [] => True
  | x :: L => cc_ok C W S E o mu L ∧ cc_p E o x ∧ x ∉ L ∧ (∀ b, cc_h E b x → b ∈ L) ∧ (W x = 0 → mu x → L.find? (cc_m C W (C x)) = cc_src S x)
def cc_Row (C W S E : Nat → Int32) (o : Nat) (mu : Nat → Prop) : Prop := ∃ L, cc_ok C W S E o mu L ∧ ∀ a, cc_p E o a → a ∈ L
def cc_mu (U : Nat → Int32) (o : Nat) (all : Int32) (a : Nat) : Prop := a = o ∨ (¬ all = 0 ∧ U a = U o)
section
variable {c : Nat} {U C W S E : Nat → Int32} {o : Nat} {mu : Nat → Prop}
theorem cc_wsrc (hw : cc_WF c U C W S E) (hc : c ≤ 8) {i : Nat} (hi : i < c) (h0 : W i = 0) : (S i = -1 ∧ cc_src S i = none) ∨ ∃ s, s < i ∧ S i = nI s ∧ cc_src S i = some s ∧ ¬ W s = 0 ∧ C s = C i ∧ cc_h E s i := by
  rcases (hw i hi).2.1 h0 with h | ⟨s, h1, h2, h3, h4, h5⟩
  · exact Or.inl ⟨h, cc_src_m h⟩
  · exact Or.inr ⟨s, h1, h2, cc_src_n h2 (by omega), h3, h4, h5⟩
theorem cc_wlt (hw : cc_WF c U C W S E) {i a : Nat} (hi : i < c) (h : cc_h E a i) : a < i := (hw i hi).2.2.1 a h
theorem cc_wtr (hw : cc_WF c U C W S E) {i a b : Nat} (hi : i < c) (h : cc_h E a i) (h2 : cc_h E b a) : cc_h E b i := (hw i hi).2.2.2.1 a b h h2
theorem cc_wir (hw : cc_WF c U C W S E) {i : Nat} (hi : i < c) : ¬ cc_h E i i := fun h => Nat.lt_irrefl _ (cc_wlt hw hi h)
theorem cc_ple (hw : cc_WF c U C W S E) (ho : o < c) {a : Nat} (h : cc_p E o a) : a ≤ o := by
  rcases h with h | h
  · exact Nat.le_of_lt (cc_wlt hw ho h)
  · omega
theorem cc_pcl (hw : cc_WF c U C W S E) (ho : o < c) {a b : Nat} (hb : cc_p E o b) (h : cc_h E a b) : cc_p E o a := by
  rcases hb with hb | hb
  · exact Or.inl (cc_wtr hw ho hb h)
  · subst hb; exact Or.inl h
theorem cc_ok_nd : ∀ L, cc_ok C W S E o mu L → L.Nodup := by
  intro L
  induction L with
  | nil => intro _; exact List.nodup_nil
  | cons x L ih => intro h; exact List.nodup_cons.mpr ⟨h.2.2.1, ih h.1⟩
theorem cc_ok_p : ∀ L, cc_ok C W S E o mu L → ∀ a, a ∈ L → cc_p E o a := by
  intro L
  induction L with
  | nil => intro _ a h; cases h
  | cons x L ih =>
    intro h a ha
    rcases List.mem_cons.mp ha with e | ha
    · rw [e]; exact h.2.1
    · exact ih h.1 a ha
theorem cc_ok_h : ∀ L, cc_ok C W S E o mu L → ∀ a b, b ∈ L → cc_h E a b → cc_bf L a b := by
  intro L
  induction L with
  | nil => intro _ a b h; cases h
  | cons x L ih =>
    intro h a b hb hab
    rcases List.mem_cons.mp hb with e | hb
    · subst e; exact Or.inl ⟨rfl, h.2.2.2.1 a hab⟩
    · exact Or.inr (ih h.1 a b hb hab)
theorem cc_ok_r {s : Nat} : ∀ L, cc_ok C W S E o mu L → ∀ r w, W r = 0 → mu r → cc_src S r = some s → ¬ W w = 0 → C w = C r → cc_bf L w r → w = s ∨ cc_bf L w s := by
  intro L
  induction L with
  | nil => intro _ r w _ _ _ _ _ h; exact h.elim
  | cons x L ih =>
    intro h r w h0 hm hs hw hc hb
    rcases hb with ⟨e, hb⟩ | hb
    · subst e
      have hf := h.2.2.2.2 h0 hm
      rw [hs] at hf
      rcases (cc_f2 L hf).2.2 w hb (cc_m_t.mpr ⟨hw, hc⟩) with e | h1
      · exact Or.inl e
      · exact Or.inr (Or.inr h1)
    · rcases ih h.1 r w h0 hm hs hw hc hb with e | h1
      · exact Or.inl e
      · exact Or.inr (Or.inr h1)
theorem cc_ok_i : ∀ L, cc_ok C W S E o mu L → ∀ r w, W r = 0 → mu r → cc_src S r = none → ¬ W w = 0 → C w = C r → cc_bf L w r → False := by
  intro L
  induction L with
  | nil => intro _ r w _ _ _ _ _ h; exact h.elim
  | cons x L ih =>
    intro h r w h0 hm hs hw hc hb
    rcases hb with ⟨e, hb⟩ | hb
    · subst e
      have hf := h.2.2.2.2 h0 hm
      rw [hs] at hf
      have h1 := cc_f0 hf hb
      rw [cc_m_t.mpr ⟨hw, hc⟩] at h1
      cases h1
    · exact ih h.1 r w h0 hm hs hw hc hb
/-- a strict order over the past that puts every read that must be right behind its write gives a row -/
theorem cc_row_of {R : Nat → Nat → Prop} (ht : ∀ a b d, R a b → R b d → R a d) (hi : ∀ a, ¬ R a a) (hp : ∀ a, cc_p E o a → a ≤ o) (hE : ∀ a b, cc_p E o b → cc_h E a b → cc_p E o a ∧ R a b)
    (hr : ∀ r, cc_p E o r → W r = 0 → mu r → (cc_src S r = none ∧ ∀ w, cc_p E o w → ¬ W w = 0 → C w = C r → R r w) ∨ ∃ s, cc_src S r = some s ∧ cc_h E s r ∧ ¬ W s = 0 ∧ C s = C r ∧ ∀ w, cc_p E o w → ¬ W w = 0 → C w = C r → w ≠ s → R r w ∨ R w s) : cc_Row C W S E o mu := by
  have hm : ∀ a, a ∈ (List.range (o + 1)).filter (fun a => bt (E o) a || decide (a = o)) ↔ cc_p E o a := by
    intro a
    rw [List.mem_filter, List.mem_range, Bool.or_eq_true, decide_eq_true_eq]
    constructor
    · intro h; exact h.2
    · intro h; exact ⟨by have := hp a h; omega, h⟩
  obtain ⟨L, h1, h2, h3⟩ := cc_lin ht hi _ ((List.range (o + 1)).filter (fun a => bt (E o) a || decide (a = o))) rfl (List.nodup_range.sublist List.filter_sublist)
  have h2' : ∀ a, a ∈ L ↔ cc_p E o a := fun a => (h2 a).trans (hm a)
  have key : ∀ L2 L1, L = L1 ++ L2 → cc_ok C W S E o mu L2 := by
    intro L2
    induction L2 with
    | nil => intro _ _; trivial
    | cons x L3 ih =>
      intro L1 e
      have e' : L = (L1 ++ [x]) ++ L3 := by rw [e]; simp
      have hx : cc_p E o x := (h2' x).mp (by rw [e]; simp)
      have hnd : x ∉ L3 := by
        have h4 := h1
        rw [e] at h4
        exact (List.nodup_cons.mp (List.nodup_append.mp h4).2.1).1
      obtain ⟨h4, h5⟩ := cc_rs_app L1 L3 x (by rw [← e]; exact h3)
      have hpre : ∀ b, cc_h E b x → b ∈ L3 := by
        intro b hb
        obtain ⟨hb1, hb2⟩ := hE b x hx hb
        have hb3 := (h2' b).mpr hb1
        rw [e, List.mem_append, List.mem_cons] at hb3
        rcases hb3 with h | h | h
        · exact absurd hb2 (h5 b h)
        · rw [h] at hb2; exact absurd hb2 (hi x)
        · exact h
      have hin : ∀ w, w ∈ L3 → cc_p E o w := fun w hw => (h2' w).mp (by rw [e, List.mem_append, List.mem_cons]; exact Or.inr (Or.inr hw))
      refine ⟨ih _ e', hx, hnd, hpre, fun h0 hmu => ?_⟩
      rcases hr x hx h0 hmu with ⟨hs, hw⟩ | ⟨s, hs, hsr, hsw, hsc, hw⟩
      · rw [hs]
        refine cc_f0' (fun w hwL => cc_nt (fun hm1 => ?_))
        obtain ⟨hm2, hm3⟩ := cc_m_t.mp hm1
        exact h4.2 w hwL (hw w (hin w hwL) hm2 hm3)
      · rw [hs]
        refine cc_f1 L3 h4.1 (hpre s hsr) (cc_m_t.mpr ⟨hsw, hsc⟩) (fun w hwL hm1 hne => ?_)
        obtain ⟨hm2, hm3⟩ := cc_m_t.mp hm1
        rcases hw w (hin w hwL) hm2 hm3 hne with h | h
        · exact absurd h (h4.2 w hwL)
        · exact h
  exact ⟨L, key L [] rfl, fun a ha => (h2' a).mpr ha⟩
/-- the weak rule by what must not happen -/
def cc_Wk (c : Nat) (C W S E : Nat → Int32) (r : Nat) : Prop := ∀ w, w < c → ¬ W w = 0 → C w = C r → cc_h E w r → ∃ s, cc_src S r = some s ∧ ¬ cc_h E s w
theorem cc_weak (hw : cc_WF c U C W S E) (hc : c ≤ 8) (ho : o < c) (h0 : W o = 0) : cc_Row C W S E o (cc_mu U o 0) ↔ cc_Wk c C W S E o := by
  constructor
  · rintro ⟨L, hok, hful⟩ w hwc hw0 hwC hwo
    have hoL : o ∈ L := hful o (Or.inr rfl)
    have hb := cc_ok_h L hok w o hoL hwo
    have hmu : cc_mu U o 0 o := Or.inl rfl
    rcases cc_wsrc hw hc ho h0 with ⟨_, hs⟩ | ⟨s, hso, _, hs, _, _, _⟩
    · exact (cc_ok_i L hok o w h0 hmu hs hw0 hwC hb).elim
    · refine ⟨s, hs, fun hsw => ?_⟩
      rcases cc_ok_r L hok o w h0 hmu hs hw0 hwC hb with e | h1
      · subst e; exact cc_wir hw hwc hsw
      · have h2 := cc_ok_h L hok s w (cc_bf_mem _ _ _ hb).1 hsw
        exact cc_bf_ir L (cc_ok_nd L hok) w (cc_bf_tr L (cc_ok_nd L hok) _ _ _ h1 h2)
  · intro hk
    have hple : ∀ a, cc_p E o a → a ≤ o := fun a => cc_ple hw ho
    have hmu : ∀ r, cc_mu U o 0 r → r = o := by
      rintro r (h | ⟨h, _⟩)
      · exact h
      · exact absurd rfl h
    have hno : ∀ w, cc_p E o w → ¬ W w = 0 → cc_h E w o := by
      rintro w (h | h) hw0
      · exact h
      · rw [h] at hw0; exact absurd h0 hw0
    rcases cc_wsrc hw hc ho h0 with ⟨_, hs⟩ | ⟨s, hso, _, hs, hsw, hsc, hsh⟩
    · refine cc_row_of (R := fun a b => b < c ∧ cc_h E a b) ?_ ?_ hple ?_ ?_
      · rintro a b d ⟨_, h1⟩ ⟨hd, h2⟩
        exact ⟨hd, cc_wtr hw hd h2 h1⟩
      · rintro a ⟨ha, h⟩; exact cc_wir hw ha h
      · intro a b hb h
        exact ⟨cc_pcl hw ho hb h, by have := hple b hb; omega, h⟩
      · intro r hr hr0 hm
        cases hmu r hm
        refine Or.inl ⟨hs, fun w hpw hw0 hwC => ?_⟩
        obtain ⟨s, hs2, _⟩ := hk w (by have := hple w hpw; omega) hw0 hwC (hno w hpw hw0)
        rw [hs] at hs2; cases hs2
    · refine cc_row_of (R := fun a b => b < c ∧ a < c ∧ (cc_h E a b ∨ (¬ (a = s ∨ cc_h E s a) ∧ (b = s ∨ cc_h E s b)))) ?_ ?_ hple ?_ ?_
      · rintro a b d ⟨hb, ha, h1⟩ ⟨hd, _, h2⟩
        refine ⟨hd, ha, ?_⟩
        rcases h1 with h1 | ⟨h1, h1'⟩
        · rcases h2 with h2 | ⟨h2, h2'⟩
          · exact Or.inl (cc_wtr hw hd h2 h1)
          · refine Or.inr ⟨fun hu => h2 ?_, h2'⟩
            rcases hu with e | hu
            · subst e; exact Or.inr h1
            · exact Or.inr (cc_wtr hw hb h1 hu)
        · rcases h2 with h2 | ⟨h2, h2'⟩
          · refine Or.inr ⟨h1, Or.inr ?_⟩
            rcases h1' with e | hu
            · subst e; exact h2
            · exact cc_wtr hw hd h2 hu
          · exact absurd h1' h2
      · rintro a ⟨_, ha, h | ⟨h, h'⟩⟩
        · exact cc_wir hw ha h
        · exact h h'
      · intro a b hb h
        have hbc : b < c := by have := hple b hb; omega
        have := cc_wlt hw hbc h
        exact ⟨cc_pcl hw ho hb h, hbc, by omega, Or.inl h⟩
      · intro r hr hr0 hm
        cases hmu r hm
        refine Or.inr ⟨s, hs, hsh, hsw, hsc, fun w hpw hw0 hwC hne => Or.inr ?_⟩
        have hwc : w < c := by have := hple w hpw; omega
        obtain ⟨s', hs2, hn⟩ := hk w hwc hw0 hwC (hno w hpw hw0)
        rw [hs] at hs2; cases hs2
        refine ⟨by omega, hwc, Or.inr ⟨?_, Or.inl rfl⟩⟩
        rintro (h | h)
        · exact hne h
        · exact hn h
/-- relations that hold what the strong rule demands -/
def cc_cl (U C W S E : Nat → Int32) (o : Nat) (T : Nat → Nat → Prop) : Prop := (∀ a b, cc_p E o b → cc_h E a b → T a b) ∧ (∀ a b d, T a b → T b d → T a d) ∧ (∀ r s w, cc_p E o r → W r = 0 → U r = U o → cc_src S r = some s → cc_p E o w → ¬ W w = 0 → C w = C r → w ≠ s → T w r → T w s)
def cc_IS (c : Nat) (U C W S E : Nat → Int32) (o : Nat) (M : Nat → Int32) : Prop := (∀ a b, a < c → cc_h E b a → bt (M a) b = true) ∧ (∀ a, a < c → ¬ cc_p E o a → M a = E a) ∧ (∀ T, cc_cl U C W S E o T → ∀ a b, cc_p E o b → bt (M b) a = true → T a b)
/-- closed under going on -/
def cc_ct (c : Nat) (within : Int32) (M : Nat → Int32) : Prop := ∀ a b d, a < c → b < c → bt within a = true → bt (M a) b = true → bt (M b) d = true → bt (M a) d = true
def cc_cp (U C W S E : Nat → Int32) (o : Nat) (M : Nat → Int32) (r : Nat) : Prop := cc_p E o r → W r = 0 → U r = U o → ∀ s w, cc_src S r = some s → cc_p E o w → ¬ W w = 0 → C w = C r → w ≠ s → bt (M r) w = true → bt (M s) w = true
def cc_Late (c : Nat) (U C W S E : Nat → Int32) (o : Nat) (M : Nat → Int32) : Prop := ∃ r w, r < c ∧ w < c ∧ cc_p E o r ∧ W r = 0 ∧ U r = U o ∧ cc_src S r = none ∧ ¬ W w = 0 ∧ C w = C r ∧ bt (M r) w = true
def cc_Ring (c : Nat) (M : Nat → Int32) : Prop := ∃ a, a < c ∧ bt (M a) a = true
theorem cc_strong {M : Nat → Int32} {within : Int32} (hwi : ∀ a, bt within a = true ↔ cc_p E o a) (hw : cc_WF c U C W S E) (hc : c ≤ 8) (ho : o < c) (hI : cc_IS c U C W S E o M) (hct : cc_ct c within M) (hcp : ∀ r, r < c → cc_cp U C W S E o M r) : cc_Row C W S E o (cc_mu U o 1) ↔ ¬ cc_Ring c M ∧ ¬ cc_Late c U C W S E o M := by
  obtain ⟨hI1, hI2, hI3⟩ := hI
  have hple : ∀ a, cc_p E o a → a ≤ o := fun a => cc_ple hw ho
  have hpm : ∀ a b, cc_p E o b → bt (M b) a = true → cc_p E o a := by
    intro a b hb hm
    refine hI3 (fun a _ => cc_p E o a) ⟨?_, ?_, ?_⟩ a b hb hm
    · intro a b hb h; exact cc_pcl hw ho hb h
    · intro a b d h _; exact h
    · intro r s w _ _ _ _ h _ _ _ _; exact h
  constructor
  · rintro ⟨L, hok, hful⟩
    have hnd := cc_ok_nd L hok
    have hcl : cc_cl U C W S E o (cc_bf L) := by
      refine ⟨fun a b hb h => cc_ok_h L hok a b (hful b hb) h, cc_bf_tr L hnd, ?_⟩
      intro r s w hr hr0 hru hs hpw hw0 hwC hne hb
      rcases cc_ok_r L hok r w hr0 (Or.inr ⟨by decide, hru⟩) hs hw0 hwC hb with e | h
      · exact absurd e hne
      · exact h
    have hmin := hI3 _ hcl
    constructor
    · rintro ⟨a, ha, hm⟩
      by_cases hp : cc_p E o a
      · exact cc_bf_ir L hnd a (hmin a a hp hm)
      · rw [hI2 a ha hp] at hm
        exact cc_wir hw ha hm
    · rintro ⟨r, w, _, _, hr, hr0, hru, hs, hw0, hwC, hm⟩
      exact cc_ok_i L hok r w hr0 (Or.inr ⟨by decide, hru⟩) hs hw0 hwC (hmin w r hr hm)
  · rintro ⟨hring, hlate⟩
    have hMt : ∀ a b d, cc_p E o a → bt (M a) b = true → bt (M b) d = true → bt (M a) d = true := by
      intro a b d ha h1 h2
      have hb := hpm b a ha h1
      exact hct a b d (by have := hple a ha; omega) (by have := hple b hb; omega) ((hwi a).mpr ha) h1 h2
    have hnest : ∀ r r', cc_p E o r → W r = 0 → U r = U o → cc_p E o r' → W r' = 0 → U r' = U o → (∀ a, bt (M r) a = true ∨ a = r → bt (M r') a = true ∨ a = r') ∨ (∀ a, bt (M r') a = true ∨ a = r' → bt (M r) a = true ∨ a = r) := by
      have half : ∀ r r', r < r' → cc_p E o r' → U r = U o → U r' = U o → ∀ a, bt (M r) a = true ∨ a = r → bt (M r') a = true ∨ a = r' := by
        intro r r' hlt hr' hu hu' a ha
        have hr'c : r' < c := by have := hple r' hr'; omega
        have h1 : cc_h E r r' := (hw r' hr'c).2.2.2.2 r hlt (hu.trans hu'.symm)
        have h2 := hI1 r' r hr'c h1
        rcases ha with ha | ha
        · exact Or.inl (hMt r' r a hr' h2 ha)
        · subst ha; exact Or.inl h2
      intro r r' hr _ hu hr' _ hu'
      rcases Nat.lt_trichotomy r r' with h | h | h
      · exact Or.inl (half r r' h hr' hu hu')
      · subst h; exact Or.inl (fun a h => h)
      · exact Or.inr (half r' r h hr hu' hu)
    refine cc_row_of (R := fun a b => cc_p E o a ∧ cc_p E o b ∧ (bt (M b) a = true ∨ ∃ r, (cc_p E o r ∧ W r = 0 ∧ U r = U o) ∧ (bt (M r) a = true ∨ a = r) ∧ ¬ (bt (M r) b = true ∨ b = r))) ?_ ?_ hple ?_ ?_
    · rintro a b d ⟨ha, hb, h1⟩ ⟨_, hd, h2⟩
      refine ⟨ha, hd, ?_⟩
      rcases h1 with h1 | ⟨r, hr, h1, h1'⟩
      · rcases h2 with h2 | ⟨r', hr', h2, h2'⟩
        · exact Or.inl (hMt d b a hd h2 h1)
        · refine Or.inr ⟨r', hr', ?_, h2'⟩
          rcases h2 with h2 | h2
          · exact Or.inl (hMt r' b a hr'.1 h2 h1)
          · subst h2; exact Or.inl h1
      · rcases h2 with h2 | ⟨r', hr', h2, h2'⟩
        · refine Or.inr ⟨r, hr, h1, fun h3 => h1' ?_⟩
          rcases h3 with h3 | h3
          · exact Or.inl (hMt r d b hr.1 h3 h2)
          · subst h3; exact Or.inl h2
        · rcases hnest r r' hr.1 hr.2.1 hr.2.2 hr'.1 hr'.2.1 hr'.2.2 with h | h
          · exact Or.inr ⟨r', hr', h a h1, h2'⟩
          · exact absurd (h b h2) h1'
    · rintro a ⟨ha, _, h | ⟨r, _, h1, h2⟩⟩
      · exact hring ⟨a, by have := hple a ha; omega, h⟩
      · exact h2 h1
    · intro a b hb h
      have ha := cc_pcl hw ho hb h
      exact ⟨ha, ha, hb, Or.inl (hI1 b a (by have := hple b hb; omega) h)⟩
    · intro r hr hr0 hm
      have hrc : r < c := by have := hple r hr; omega
      have hru : U r = U o := by
        rcases hm with h | ⟨_, h⟩
        · rw [h]
        · exact h
      rcases cc_wsrc hw hc hrc hr0 with ⟨_, hs⟩ | ⟨s, _, _, hs, hsw, hsc, hsh⟩
      · refine Or.inl ⟨hs, fun w hpw hw0 hwC => ⟨hr, hpw, Or.inr ⟨r, ⟨hr, hr0, hru⟩, Or.inr rfl, ?_⟩⟩⟩
        rintro (h | h)
        · exact hlate ⟨r, w, hrc, by have := hple w hpw; omega, hr, hr0, hru, hs, hw0, hwC, h⟩
        · rw [h] at hw0; exact hw0 hr0
      · refine Or.inr ⟨s, hs, hsh, hsw, hsc, fun w hpw hw0 hwC hne => ?_⟩
        by_cases hD : bt (M r) w = true ∨ w = r
        · refine Or.inr ⟨hpw, cc_pcl hw ho hr hsh, Or.inl ?_⟩
          rcases hD with h | h
          · exact hcp r hrc hr hr0 hru s w hs hpw hw0 hwC hne h
          · rw [h] at hw0; exact absurd hr0 hw0
        · exact Or.inl ⟨hr, hpw, Or.inr ⟨r, ⟨hr, hr0, hru⟩, Or.inr rfl, hD⟩⟩
end
end
section
/-! convergence: one order of all writes -/
def cc_n (C E : Nat → Int32) (r w : Nat) : Bool := decide (C w = C r) && bt (E r) w
theorem cc_n_t {C E : Nat → Int32} {r w : Nat} : cc_n C E r w = true ↔ C w = C r ∧ cc_h E w r := by
  unfold cc_n
  rw [Bool.and_eq_true, decide_eq_true_eq]
/-- L (the latest first) is an order of the writes that fits all reads -/
def cc_Good (c : Nat) (C W S E : Nat → Int32) (L : List Nat) : Prop := cc_rs (cc_h E) L ∧ ∀ r, r < c → W r = 0 → L.find? (cc_n C E r) = cc_src S r
def cc_Cv (c : Nat) (C W S E : Nat → Int32) : Prop := ∃ L : List Nat, L.Nodup ∧ (∀ a, a ∈ L ↔ a < c ∧ ¬ W a = 0) ∧ cc_Good c C W S E L
def cc_cl2 (c : Nat) (C W S E : Nat → Int32) (T : Nat → Nat → Prop) : Prop := (∀ a b, b < c → cc_h E a b → T a b) ∧ (∀ a b d, T a b → T b d → T a d) ∧ (∀ r s w, r < c → W r = 0 → cc_src S r = some s → w < c → ¬ W w = 0 → C w = C r → cc_h E w r → w ≠ s → T w s)
def cc_I2 (c : Nat) (C W S E : Nat → Int32) (M : Nat → Int32) : Prop := (∀ a b, a < c → cc_h E b a → bt (M a) b = true) ∧ (∀ T, cc_cl2 c C W S E T → ∀ a b, b < c → bt (M b) a = true → T a b)
/-- the write w, seen by the read r, is pushed before the one that r names -/
def cc_pu (c : Nat) (C W S E : Nat → Int32) (M : Nat → Int32) (r w : Nat) : Prop := W r = 0 → ¬ W w = 0 → C w = C r → cc_h E w r → ∃ s, cc_src S r = some s ∧ (w ≠ s → bt (M s) w = true)
def cc_Ini (c : Nat) (C W S E : Nat → Int32) : Prop := ∃ r w, r < c ∧ w < c ∧ W r = 0 ∧ cc_src S r = none ∧ ¬ W w = 0 ∧ C w = C r ∧ cc_h E w r
theorem cc_rs_mono {R Q : Nat → Nat → Prop} : ∀ L, (∀ x a, x ∈ L → a ∈ L → Q x a → R x a) → cc_rs R L → cc_rs Q L := by
  intro L
  induction L with
  | nil => intro _ _; trivial
  | cons x L ih =>
    intro h hr
    refine ⟨ih (fun y a hy ha => h y a (List.mem_cons_of_mem _ hy) (List.mem_cons_of_mem _ ha)) hr.1, fun a ha hq => ?_⟩
    exact hr.2 a ha (h x a List.mem_cons_self (List.mem_cons_of_mem _ ha) hq)
section
variable {c : Nat} {U C W S E : Nat → Int32}
theorem cc_conv_ini (h : cc_Ini c C W S E) : ¬ cc_Cv c C W S E := by
  rintro ⟨L, _, h2, _, h4⟩
  obtain ⟨r, w, hr, hw, hr0, hs, hw0, hwC, hh⟩ := h
  have hf := h4 r hr hr0
  rw [hs] at hf
  have h5 := cc_f0 hf ((h2 w).mpr ⟨hw, hw0⟩)
  rw [cc_n_t.mpr ⟨hwC, hh⟩] at h5
  cases h5
theorem cc_conv {M : Nat → Int32} (hw : cc_WF c U C W S E) (hc : c ≤ 8) (hI : cc_I2 c C W S E M) (hct : ∀ a b d, a < c → b < c → bt (M a) b = true → bt (M b) d = true → bt (M a) d = true) (hpu : ∀ r, r < c → ∀ w, w < c → cc_pu c C W S E M r w) : cc_Cv c C W S E ↔ ¬ cc_Ring c M := by
  obtain ⟨hI1, hI2⟩ := hI
  have hmc : ∀ a b, b < c → bt (M b) a = true → a < c := by
    intro a b hb hm
    refine hI2 (fun a _ => a < c) ⟨?_, ?_, ?_⟩ a b hb hm
    · intro a b hb h; have := cc_wlt hw hb h; omega
    · intro a b d h _; exact h
    · intro r s w _ _ _ h _ _ _ _; exact h
  constructor
  · rintro ⟨L, hnd, hmem, hrs, hfit⟩ ⟨a, ha, hm⟩
    have hh : ∀ x y, x ∈ L → y ∈ L → (x = y ∨ cc_h E x y) → x = y ∨ cc_bf L x y := by
      rintro x y hx hy (h | h)
      · exact Or.inl h
      · have hyc := ((hmem y).mp hy).1
        have hne : x ≠ y := by
          intro e; subst e; exact cc_wir hw hyc h
        rcases cc_bf_tot L x y hx hy hne with h1 | h1
        · exact Or.inr h1
        · exact absurd h (cc_rs_bf L hrs y x h1)
    have hht : ∀ x y z, z < c → (x = y ∨ cc_h E x y) → (y = z ∨ cc_h E y z) → (x = z ∨ cc_h E x z) := by
      rintro x y z hz (h1 | h1) (h2 | h2)
      · exact Or.inl (h1.trans h2)
      · subst h1; exact Or.inr h2
      · subst h2; exact Or.inr h1
      · exact Or.inr (cc_wtr hw hz h2 h1)
    have hcl : cc_cl2 c C W S E (fun a b => b < c ∧ (cc_h E a b ∨ ∃ w1 w2, (a = w1 ∨ cc_h E a w1) ∧ cc_bf L w1 w2 ∧ (w2 = b ∨ cc_h E w2 b))) := by
      refine ⟨fun a b hb h => ⟨hb, Or.inl h⟩, ?_, ?_⟩
      · rintro a b d ⟨hb, h1⟩ ⟨hd, h2⟩
        refine ⟨hd, ?_⟩
        rcases h1 with h1 | ⟨w1, w2, h1, h2', h3⟩
        · rcases h2 with h2 | ⟨w3, w4, h4, h5, h6⟩
          · exact Or.inl (cc_wtr hw hd h2 h1)
          · have hw3 := ((hmem w3).mp (cc_bf_mem _ _ _ h5).1).1
            exact Or.inr ⟨w3, w4, hht a b w3 hw3 (Or.inr h1) h4, h5, h6⟩
        · rcases h2 with h2 | ⟨w3, w4, h4, h5, h6⟩
          · exact Or.inr ⟨w1, w2, h1, h2', hht w2 b d hd h3 (Or.inr h2)⟩
          · have hm2 := (cc_bf_mem _ _ _ h2').2
            have hm3 := (cc_bf_mem _ _ _ h5).1
            have hw3 := ((hmem w3).mp hm3).1
            refine Or.inr ⟨w1, w4, h1, ?_, h6⟩
            rcases hh w2 w3 hm2 hm3 (hht w2 b w3 hw3 h3 h4) with e | h7
            · subst e; exact cc_bf_tr L hnd _ _ _ h2' h5
            · exact cc_bf_tr L hnd _ _ _ (cc_bf_tr L hnd _ _ _ h2' h7) h5
      · intro r s w hr hr0 hs hwc hw0 hwC hwh hne
        have hf := hfit r hr hr0
        rw [hs] at hf
        obtain ⟨h1, _, h3⟩ := cc_f2 L hf
        refine ⟨((hmem s).mp h1).1, Or.inr ⟨w, s, Or.inl rfl, ?_, Or.inl rfl⟩⟩
        rcases h3 w ((hmem w).mpr ⟨hwc, hw0⟩) (cc_n_t.mpr ⟨hwC, hwh⟩) with e | h
        · exact absurd e hne
        · exact h
    rcases hI2 _ hcl a a ha hm with ⟨_, h | ⟨w1, w2, h1, h2, h3⟩⟩
    · exact cc_wir hw ha h
    · obtain ⟨hm1, hm2⟩ := cc_bf_mem _ _ _ h2
      have hw1 := ((hmem w1).mp hm1).1
      rcases hh w2 w1 hm2 hm1 (hht w2 a w1 hw1 h3 h1) with e | h
      · subst e; exact cc_bf_ir L hnd _ h2
      · exact cc_bf_ir L hnd _ (cc_bf_tr L hnd _ _ _ h2 h)
  · intro hring
    obtain ⟨L, h1, h2, h3⟩ := cc_lin (R := fun a b => b < c ∧ bt (M b) a = true) (by
      rintro a b d ⟨hb, h1⟩ ⟨hd, h2⟩
      exact ⟨hd, hct d b a hd hb h2 h1⟩) (by
      rintro a ⟨ha, h⟩
      exact hring ⟨a, ha, h⟩) _ ((List.range c).filter (fun a => decide (¬ W a = 0))) rfl (List.nodup_range.sublist List.filter_sublist)
    have h2' : ∀ a, a ∈ L ↔ a < c ∧ ¬ W a = 0 := by
      intro a
      rw [h2, List.mem_filter, List.mem_range, decide_eq_true_eq]
    refine ⟨L, h1, h2', cc_rs_mono L (fun x a _ ha h => ⟨((h2' a).mp ha).1, hI1 a x ((h2' a).mp ha).1 h⟩) h3, fun r hr hr0 => ?_⟩
    rcases cc_wsrc hw hc hr hr0 with ⟨_, hs⟩ | ⟨s, hsr, _, hs, hsw, hsc, hsh⟩
    · rw [hs]
      refine cc_f0' (fun w hwL => cc_nt (fun hn => ?_))
      obtain ⟨hn1, hn2⟩ := cc_n_t.mp hn
      obtain ⟨hwc, hw0⟩ := (h2' w).mp hwL
      obtain ⟨s, hs2, _⟩ := hpu r hr w hwc hr0 hw0 hn1 hn2
      rw [hs] at hs2; cases hs2
    · rw [hs]
      refine cc_f1 L h3 ((h2' s).mpr ⟨by omega, hsw⟩) (cc_n_t.mpr ⟨hsc, hsh⟩) (fun w hwL hn hne => ?_)
      obtain ⟨hn1, hn2⟩ := cc_n_t.mp hn
      obtain ⟨hwc, hw0⟩ := (h2' w).mp hwL
      obtain ⟨s', hs2, hp⟩ := hpu r hr w hwc hr0 hw0 hn1 hn2
      rw [hs] at hs2; cases hs2
      exact ⟨by omega, hp hne⟩
end
end
section
/-! X's walks: ring, too late, weak, push, close -/
section
variable {c : Nat} {U C W S E : Nat → Int32}
theorem cx_ring_2 {M : Nat → Int32} (hc : c ≤ 8) {post : Int32 → Prop} (h0 : ¬ cc_Ring c M → post 0) (h1 : cc_Ring c M → post 1) : ∀ n i, i ≤ c → c - i < n → (∀ a, a < i → bt (M a) a = false) → wX_hasRing_2 post (nI c) U C W S E M n (nI i) := by
  intro n
  induction n with
  | zero => intro i _ h; omega
  | succ n ih =>
    intro i hi hn hall
    rw [wX_hasRing_2]
    dsimp only
    rw [nI_clamp (show i < 2 ^ 31 by omega)]
    refine pk_le c i (fun h => h0 ?_) (fun h => ⟨vp_in_nI (by omega) (by omega), cc_bu (by omega) (fun z => nm_r (nI_1 i) (ih (i + 1) (by omega) (by omega) ?_)) (fun z => h1 ⟨i, h, z⟩)⟩)
    · rintro ⟨a, ha, hm⟩
      rw [hall a (by omega)] at hm
      cases hm
    · intro a ha
      by_cases e : a = i
      · rw [e]; exact z
      · exact hall a (by omega)
theorem cx_ring {M : Nat → Int32} (hc : c ≤ 8) {post : Int32 → Prop} (h0 : ¬ cc_Ring c M → post 0) (h1 : cc_Ring c M → post 1) : wpX_hasRing post (nI c, U, C, W, S, E, M) :=
  ⟨c + 1, cx_ring_2 hc h0 h1 (c + 1) 0 (by omega) (by omega) (fun a ha => by omega)⟩
theorem cc_src_none {S : Nat → Int32} {r : Nat} : cc_src S r = none ↔ ¬ 0 ≤ S r := by
  unfold cc_src
  by_cases h : 0 ≤ S r
  · rw [if_pos h]; simp [h]
  · rw [if_neg h]; simp [h]
theorem cx_late_61 {M : Nat → Int32} (hc : c ≤ 8) {post J : Int32 → Prop} {x1 x2 x4 : Int32} {r : Nat} (hr : r < c) (h4 : x4 = 0 ∨ x4 = 1)
    (hK : (x4 = 1 → ∀ w, w < c → ¬ W w = 0 → C w = C r → bt (M r) w = false) → J (nI (r + 1))) (hP : x4 = 1 → ∀ w, w < c → ¬ W w = 0 → C w = C r → bt (M r) w = true → post 1) :
    ∀ n w, w ≤ c → c - w < n → (x4 = 1 → ∀ w', w' < w → ¬ W w' = 0 → C w' = C r → bt (M r) w' = false) → wX_comesTooLate_61 post J x1 x2 (nI r) x4 (nI c) U C W S E M n (nI w) := by
  intro n
  induction n with
  | zero => intro i _ h; omega
  | succ n ih =>
    intro w hw hn hall
    rw [wX_comesTooLate_61]
    dsimp only
    rw [nI_clamp (show w < 2 ^ 31 by omega), nI_clamp (show r < 2 ^ 31 by omega)]
    have go : (x4 = 1 → ¬ W w = 0 → C w = C r → bt (M r) w = false) → w < c → wX_comesTooLate_61 post J x1 x2 (nI r) x4 (nI c) U C W S E M n (nI (w + 1)) := by
      intro h hwc
      refine ih (w + 1) (by omega) (by omega) (fun e w' hw' => ?_)
      by_cases e2 : w' = w
      · rw [e2]; exact h e
      · exact hall e w' (by omega)
    have skip : (x4 = 1 → ¬ W w = 0 → C w = C r → bt (M r) w = false) → w < c → wX_comesTooLate_114 post J (wX_comesTooLate_61 post J x1 x2 (nI r) x4 (nI c) U C W S E M n) x1 x2 (nI r) x4 (nI w) (nI c) U C W S E M := by
      intro h hwc
      exact br_c (fun _ => nm_r (nI_1 w) (go h hwc)) (fun _ => br_t rfl (nm_r (nI_1 w) (go h hwc)))
    refine pk_le c w (fun h => nm_r (nI_1 r) (hK (fun e w' hw' => hall e w' (by omega)))) (fun h => ⟨vp_in_nI (by omega) (by omega), br_c (fun z => skip (fun _ z' => absurd z z') h) (fun z => ⟨vp_in_nI (by omega) (by omega), vp_in_nI (by omega) (by omega), br_c (fun zc => ⟨vp_in_nI (by omega) (by omega), cc_bu (by omega) (fun zb => skip (fun _ _ _ => zb) h) (fun zb => ?_)⟩) (fun zc => skip (fun _ _ z' => absurd z' zc) h)⟩)⟩)
    rcases h4 with e | e
    · exact br_t e (nm_r (nI_1 w) (go (fun e' => by rw [e] at e'; exact absurd e' (by decide)) h))
    · exact br_f (by rw [e]; decide) (br_f (by decide) (hP e w h z zc zb))
theorem cx_late_2 {M : Nat → Int32} (hc : c ≤ 8) {post : Int32 → Prop} {x2 : Int32} {o : Nat} (ho : o < c) (hwi : ∀ a, bt x2 a = true ↔ cc_p E o a) (h0 : ¬ cc_Late c U C W S E o M → post 0) (h1 : cc_Late c U C W S E o M → post 1) :
    ∀ n r, r ≤ c → c - r < n → (∀ r' w, r' < r → w < c → cc_p E o r' → W r' = 0 → U r' = U o → cc_src S r' = none → ¬ W w = 0 → C w = C r' → bt (M r') w = false) → wX_comesTooLate_2 post (nI o) x2 (nI c) U C W S E M n (nI r) := by
  intro n
  induction n with
  | zero => intro i _ h; omega
  | succ n ih =>
    intro r hr hn hall
    rw [wX_comesTooLate_2]
    dsimp only
    rw [nI_clamp (show r < 2 ^ 31 by omega), nI_clamp (show o < 2 ^ 31 by omega)]
    have skip : r < c → (¬ (cc_p E o r ∧ W r = 0 ∧ U r = U o ∧ cc_src S r = none)) → ∃ n61 : Nat, wX_comesTooLate_61 post (wX_comesTooLate_2 post (nI o) x2 (nI c) U C W S E M n) (nI o) x2 (nI r) 0 (nI c) U C W S E M n61 0 := by
      intro hrc hno
      refine ⟨c + 1, cx_late_61 hc hrc (Or.inl rfl) (fun _ => ih (r + 1) (by omega) (by omega) ?_) (fun e => absurd e (by decide)) (c + 1) 0 (by omega) (by omega) (fun e => absurd e (by decide))⟩
      intro r' w hr' hwc hp h00 hu hs
      by_cases e : r' = r
      · subst e; exact absurd ⟨hp, h00, hu, hs⟩ hno
      · exact hall r' w (by omega) hwc hp h00 hu hs
    refine pk_le c r (fun h => h0 ?_) (fun h => cc_bu (by omega) (fun zp => skip h (fun hh => by rw [(hwi r).mpr hh.1] at zp; cases zp)) (fun zp => ⟨vp_in_nI (by omega) (by omega), br_c (fun z0 => ⟨vp_in_nI (by omega) (by omega), vp_in_nI (by omega) (by omega), br_c (fun zu => ⟨vp_in_nI (by omega) (by omega), br_c (fun zs => skip h (fun hh => (cc_src_none.mp hh.2.2.2) zs)) (fun zs => ?_)⟩) (fun zu => skip h (fun hh => zu hh.2.2.1))⟩) (fun z0 => skip h (fun hh => z0 hh.2.1))⟩))
    · rintro ⟨r', w, hr', hwc, hp, h00, hu, hs, hw0, hwC, hm⟩
      rw [hall r' w (by omega) hwc hp h00 hu hs hw0 hwC] at hm
      cases hm
    · refine ⟨c + 1, cx_late_61 hc h (Or.inr rfl) (fun hno => ih (r + 1) (by omega) (by omega) ?_) (fun _ w hwc hw0 hwC hm => h1 ⟨r, w, h, hwc, (hwi r).mp zp, z0, zu, cc_src_none.mpr zs, hw0, hwC, hm⟩) (c + 1) 0 (by omega) (by omega) (fun _ w' hw' => by omega)⟩
      intro r' w hr' hwc hp h00 hu hs hw0 hwC
      by_cases e : r' = r
      · subst e; exact hno rfl w hwc hw0 hwC
      · exact hall r' w (by omega) hwc hp h00 hu hs hw0 hwC
theorem cx_late {M : Nat → Int32} (hc : c ≤ 8) {post : Int32 → Prop} {x2 : Int32} {o : Nat} (ho : o < c) (hwi : ∀ a, bt x2 a = true ↔ cc_p E o a) (h0 : ¬ cc_Late c U C W S E o M → post 0) (h1 : cc_Late c U C W S E o M → post 1) : wpX_comesTooLate post (nI c, U, C, W, S, E, M) (nI o) x2 :=
  ⟨c + 1, cx_late_2 hc ho hwi h0 h1 (c + 1) 0 (by omega) (by omega) (fun r' w hr' => by omega)⟩
/-! close -/
def cx_ok (x1 : Int32) (M : Nat → Int32) (a b : Nat) : Prop := bt x1 a = true → bt (M a) b = true → ∀ d, bt (M b) d = true → bt (M a) d = true
def cx_cs (c : Nat) (Inv : (Nat → Int32) → Prop) (x1 : Int32) (M0 : Nat → Int32) (a b : Nat) (ch : Int32) (M : Nat → Int32) : Prop := Inv M ∧ ((ch = 0 ∧ M = M0 ∧ ∀ a' b', a' < c → b' < c → (a' < a ∨ (a' = a ∧ b' < b)) → cx_ok x1 M0 a' b') ∨ (ch = 1 ∧ cc_D M < cc_D M0))
theorem cx_cs_skip {Inv : (Nat → Int32) → Prop} {x1 : Int32} {M0 : Nat → Int32} {a b : Nat} {ch : Int32} {M : Nat → Int32} (h : cx_cs c Inv x1 M0 a b ch M) (hok : cx_ok x1 M a b) : cx_cs c Inv x1 M0 a (b + 1) ch M := by
  refine ⟨h.1, ?_⟩
  rcases h.2 with ⟨e, em, hall⟩ | h2
  · refine Or.inl ⟨e, em, fun a' b' ha' hb' hlt => ?_⟩
    by_cases e2 : a' = a ∧ b' = b
    · obtain ⟨rfl, rfl⟩ := e2
      rw [← em]; exact hok
    · exact hall a' b' ha' hb' (by omega)
  · exact Or.inr h2
theorem cx_orD {M : Nat → Int32} {a : Nat} {x : Int32} (ha : a < 8) {d : Nat} (hd : d < 7) (h1 : bt x d = true) (h2 : bt (M a) d = false) : cc_D (upd M a (M a ||| x)) < cc_D M := by
  refine cc_Dlt (fun a' b' h => ?_) ha hd h2 (by rw [pk_us, b_or, h1, Bool.or_true])
  by_cases e : a' = a
  · subst e; rw [pk_us, b_or, h, Bool.true_or]
  · rw [pk_un e]; exact h
theorem cx_close_15 {post : Int32 → SX → Prop} {J : Int32 → Int32 → (Nat → Int32) → (Nat → Int32) → (Nat → Int32) → (Nat → Int32) → (Nat → Int32) → (Nat → Int32) → Prop} {x1 : Int32} {a : Nat} (hc : c ≤ 8) (ha : a < c) {Inv : (Nat → Int32) → Prop}
    (hst : ∀ M a b, Inv M → a < c → b < c → bt x1 a = true → bt (M a) b = true → Inv (upd M a (M a ||| M b))) (h7 : ∀ M, Inv M → ∀ a b, a < c → bt (M a) b = true → b < 7) (M0 : Nat → Int32)
    (K : ∀ ch M, cx_cs c Inv x1 M0 a c ch M → J ch (nI (a + 1)) U C W S E M) :
    ∀ n b ch M, b ≤ c → c - b < n → cx_cs c Inv x1 M0 a b ch M → wX_close_15 post J x1 (nI a) (nI c) n ch (nI b) U C W S E M := by
  intro n
  induction n with
  | zero => intro b ch M _ h; omega
  | succ n ih =>
    intro b ch M hb hn hcs
    rw [wX_close_15]
    dsimp only
    rw [nI_clamp (show a < 2 ^ 31 by omega), nI_clamp (show b < 2 ^ 31 by omega)]
    refine pk_le c b (fun h => ?_) (fun h => cc_bu (by omega) (fun z => nm_r (nI_1 b) (ih (b + 1) ch M (by omega) (by omega) (cx_cs_skip hcs (fun z' => by rw [z] at z'; cases z')))) (fun zi => ⟨vp_in_nI (by omega) (by omega), cc_bu (by omega) (fun z => nm_r (nI_1 b) (ih (b + 1) ch M (by omega) (by omega) (cx_cs_skip hcs (fun _ z' => by rw [z] at z'; cases z')))) (fun zb => ⟨vp_in_nI (by omega) (by omega), vp_in_nI (by omega) (by omega), cc_bsub (fun zs => nm_r (nI_1 b) (ih (b + 1) ch M (by omega) (by omega) (cx_cs_skip hcs (fun _ _ => zs)))) (fun zs => ⟨vp_in_nI (by omega) (by omega), vp_in_nI (by omega) (by omega), vp_in_nI (by omega) (by omega), nm_e (nm_r (nI_1 b) (ih (b + 1) 1 _ (by omega) (by omega) ?_))⟩)⟩)⟩))
    · have e : b = c := by omega
      subst e
      exact nm_r (nI_1 a) (K ch M hcs)
    · have hex : ∃ d, bt (M b) d = true ∧ bt (M a) d = false := by
        refine Classical.byContradiction (fun hno => zs (fun i hi => cc_nf (fun hf => hno ⟨i, hi, hf⟩)))
      obtain ⟨d, hd1, hd2⟩ := hex
      have hD : cc_D (upd M a (M a ||| M b)) < cc_D M := cx_orD (by omega) (h7 M hcs.1 b d h hd1) hd1 hd2
      refine ⟨hst M a b hcs.1 ha h zi zb, Or.inr ⟨rfl, ?_⟩⟩
      rcases hcs.2 with ⟨_, em, _⟩ | ⟨_, h2⟩
      · rw [← em]; exact hD
      · omega
theorem cx_close_4 {post : Int32 → SX → Prop} {x1 : Int32} (hc : c ≤ 8) {Inv : (Nat → Int32) → Prop}
    (hst : ∀ M a b, Inv M → a < c → b < c → bt x1 a = true → bt (M a) b = true → Inv (upd M a (M a ||| M b))) (h7 : ∀ M, Inv M → ∀ a b, a < c → bt (M a) b = true → b < 7) (M0 : Nat → Int32)
    (h0 : cc_ct c x1 M0 → post 0 (nI c, U, C, W, S, E, M0)) (h1 : ∀ M, Inv M → cc_D M < cc_D M0 → post 1 (nI c, U, C, W, S, E, M)) :
    ∀ n a ch M, a ≤ c → c - a < n → cx_cs c Inv x1 M0 a 0 ch M → wX_close_4 post x1 (nI c) n ch (nI a) U C W S E M := by
  intro n
  induction n with
  | zero => intro a ch M _ h; omega
  | succ n ih =>
    intro a ch M ha hn hcs
    rw [wX_close_4]
    refine pk_le c a (fun h => ?_) (fun h => ⟨c + 1, ?_⟩)
    · rcases hcs.2 with ⟨e, em, hall⟩ | ⟨e, h2⟩
      · subst e em
        exact ⟨rfl, h0 (fun a' b' d ha' hb' hi h1 h2 => hall a' b' ha' hb' (by omega) hi h1 d h2)⟩
      · subst e
        exact ⟨rfl, h1 M hcs.1 h2⟩
    · refine cx_close_15 hc h hst h7 M0 (fun ch' M' hcs' => ih (a + 1) ch' M' (by omega) (by omega) ⟨hcs'.1, ?_⟩) (c + 1) 0 ch M (by omega) (by omega) hcs
      rcases hcs'.2 with ⟨e, em, hall⟩ | h2
      · exact Or.inl ⟨e, em, fun a' b' ha' hb' hlt => hall a' b' ha' hb' (by omega)⟩
      · exact Or.inr h2
theorem cx_close {post : Int32 → SX → Prop} {x1 : Int32} (hc : c ≤ 8) {Inv : (Nat → Int32) → Prop}
    (hst : ∀ M a b, Inv M → a < c → b < c → bt x1 a = true → bt (M a) b = true → Inv (upd M a (M a ||| M b))) (h7 : ∀ M, Inv M → ∀ a b, a < c → bt (M a) b = true → b < 7) {M0 : Nat → Int32} (hI : Inv M0)
    (h0 : cc_ct c x1 M0 → post 0 (nI c, U, C, W, S, E, M0)) (h1 : ∀ M, Inv M → cc_D M < cc_D M0 → post 1 (nI c, U, C, W, S, E, M)) : wpX_close post (nI c, U, C, W, S, E, M0) x1 :=
  ⟨c + 1, cx_close_4 hc hst h7 M0 h0 h1 (c + 1) 0 0 M0 (by omega) (by omega) ⟨hI, Or.inl ⟨rfl, rfl, fun a' b' _ _ h => by omega⟩⟩⟩
/-! push -/
theorem cx_push_18 {post : Int32 → SX → Prop} {x2 : Int32} {r s : Nat} (hc : c ≤ 8) (hr : r < c) (hs : s < r) {Inv : (Nat → Int32) → Prop} {M0 : Nat → Int32}
    (hst : ∀ M w, Inv M → w < c → w ≠ s → ¬ W w = 0 → C w = C r → bt x2 w = true → bt (M r) w = true → Inv (upd M s (M s ||| ((1 : Int32) <<< (nI w &&& 31))))) (h7 : ∀ M, Inv M → ∀ a b, a < c → bt (M a) b = true → b < 7)
    (h0 : (∀ w, w < c → w ≠ s → ¬ W w = 0 → C w = C r → bt x2 w = true → bt (M0 r) w = true → bt (M0 s) w = true) → post 0 (nI c, U, C, W, S, E, M0)) (h1 : ∀ M, Inv M → cc_D M < cc_D M0 → post 1 (nI c, U, C, W, S, E, M)) :
    ∀ n w M, w ≤ c → c - w < n → Inv M → (∀ j, j ≠ s → M j = M0 j) → (∀ d, bt (M0 s) d = true → bt (M s) d = true) → (∀ w', w' < w → w' ≠ s → ¬ W w' = 0 → C w' = C r → bt x2 w' = true → bt (M0 r) w' = true → bt (M s) w' = true) → wX_pushBefore_18 post (nI r) x2 (nI s) (M0 s) (nI c) n (nI w) U C W S E M := by
  intro n
  induction n with
  | zero => intro w M _ h; omega
  | succ n ih =>
    intro w M hw hn hI hoth hsup hall
    have skip : w < c → (w ≠ s → ¬ W w = 0 → C w = C r → bt x2 w = true → bt (M0 r) w = true → bt (M s) w = true) → wX_pushBefore_18 post (nI r) x2 (nI s) (M0 s) (nI c) n (nI (w + 1)) U C W S E M := by
      intro hwc hh
      refine ih (w + 1) M (by omega) (by omega) hI hoth hsup (fun w' hw' => ?_)
      by_cases e : w' = w
      · rw [e]; exact hh
      · exact hall w' (by omega)
    have skip2 : w < c → (w ≠ s → ¬ W w = 0 → C w = C r → bt x2 w = true → bt (M0 r) w = true → bt (M s) w = true) → wX_pushBefore_72 post (wX_pushBefore_18 post (nI r) x2 (nI s) (M0 s) (nI c) n) (nI r) x2 (nI s) (M0 s) (nI w) (nI c) U C W S E M := by
      intro hwc hh
      exact br_t rfl (nm_r (nI_1 w) (skip hwc hh))
    rw [wX_pushBefore_18]
    dsimp only
    rw [nI_clamp (show w < 2 ^ 31 by omega), nI_clamp (show r < 2 ^ 31 by omega), nI_clamp (show s < 2 ^ 31 by omega)]
    refine pk_le c w (fun h => ⟨vp_in_nI (by omega) (by omega), br_c (fun z => ?_) (fun z => h1 M hI ?_)⟩) (fun h => pk_eq w s (fun z => skip2 h (fun z' => absurd z z')) (fun zs => ⟨vp_in_nI (by omega) (by omega), br_c (fun z => skip2 h (fun _ z' => absurd z z')) (fun zw => ⟨vp_in_nI (by omega) (by omega), vp_in_nI (by omega) (by omega), br_c (fun zc => cc_bu (by omega) (fun z => skip2 h (fun _ _ _ z' => by rw [z] at z'; cases z')) (fun zp => br_f (by decide) ⟨vp_in_nI (by omega) (by omega), ?_⟩)) (fun z => skip2 h (fun _ _ z' => absurd z' z))⟩)⟩))
    · have em : M = M0 := by
        funext j
        by_cases e : j = s
        · rw [e]; exact z
        · exact hoth j e
      subst em
      exact h0 (fun w' hw' => hall w' (by omega))
    · have hex : ∃ d, bt (M s) d = true ∧ bt (M0 s) d = false := by
        refine Classical.byContradiction (fun hno => z (b_ext (fun i _ => ?_)))
        cases hm : bt (M s) i
        · exact (cc_nt (fun hm0 => by rw [hsup i hm0] at hm; cases hm)).symm
        · exact (cc_nf (fun hm0 => hno ⟨i, hm, hm0⟩)).symm
      obtain ⟨d, hd1, hd2⟩ := hex
      refine cc_Dlt (fun a b hab => ?_) (show s < 8 by omega) (h7 M hI s d (by omega) hd1) hd2 hd1
      by_cases e : a = s
      · rw [e] at hab ⊢; exact hsup b hab
      · rw [hoth a e]; exact hab
    · have er : M r = M0 r := hoth r (by omega)
      rw [nI_clamp (show r < 2 ^ 31 by omega)]
      refine cc_bu (by omega) (fun z => nm_r (nI_1 w) (skip h (fun _ _ _ _ z' => by rw [er] at z; rw [z] at z'; cases z'))) (fun zm => ⟨vp_in_nI (by omega) (by omega), vp_in_nI (by omega) (by omega), ?_⟩)
      rw [nI_clamp (show s < 2 ^ 31 by omega)]
      refine nm_e (nm_r (nI_1 w) (ih (w + 1) _ (by omega) (by omega) (hst M w hI h zs zw zc zp zm) (fun j hj => by rw [pk_un hj]; exact hoth j hj) (fun d hd => by rw [pk_us, b_or, hsup d hd, Bool.true_or]) (fun w' hw' g1 g2 g3 g4 g5 => ?_)))
      rw [pk_us, b_or, cc_bit (by omega)]
      by_cases e : w' = w
      · rw [e]; simp
      · rw [hall w' (by omega) g1 g2 g3 g4 g5, Bool.true_or]
theorem cx_push {post : Int32 → SX → Prop} {x2 : Int32} {r s : Nat} (hc : c ≤ 8) (hr : r < c) (hs : s < r) (hS : S r = nI s) {Inv : (Nat → Int32) → Prop} {M0 : Nat → Int32} (hI : Inv M0)
    (hst : ∀ M w, Inv M → w < c → w ≠ s → ¬ W w = 0 → C w = C r → bt x2 w = true → bt (M r) w = true → Inv (upd M s (M s ||| ((1 : Int32) <<< (nI w &&& 31))))) (h7 : ∀ M, Inv M → ∀ a b, a < c → bt (M a) b = true → b < 7)
    (h0 : (∀ w, w < c → w ≠ s → ¬ W w = 0 → C w = C r → bt x2 w = true → bt (M0 r) w = true → bt (M0 s) w = true) → post 0 (nI c, U, C, W, S, E, M0)) (h1 : ∀ M, Inv M → cc_D M < cc_D M0 → post 1 (nI c, U, C, W, S, E, M)) : wpX_pushBefore post (nI c, U, C, W, S, E, M0) (nI r) x2 := by
  unfold wpX_pushBefore
  dsimp only
  rw [nI_clamp (show r < 2 ^ 31 by omega)]
  refine ⟨vp_in_nI (by omega) (by omega), nm_r hS ⟨vp_in_nI (by omega) (by omega), nm_r (by rw [nI_clamp (show s < 2 ^ 31 by omega)]) ⟨c + 1, ?_⟩⟩⟩
  exact cx_push_18 hc hr hs hst h7 h0 h1 (c + 1) 0 M0 (by omega) (by omega) hI (fun _ _ => rfl) (fun _ h => h) (fun w' hw' => by omega)
/-! weak -/
theorem cx_weak_13 {M : Nat → Int32} (hw : cc_WF c U C W S E) (hc : c ≤ 8) {post : Int32 → Prop} {r : Nat} (hr : r < c) (h00 : W r = 0) (h0 : ¬ cc_Wk c C W S E r → post 0) (h1 : cc_Wk c C W S E r → post 1) :
    ∀ n w, w ≤ c → c - w < n → (∀ w', w' < w → ¬ W w' = 0 → C w' = C r → cc_h E w' r → ∃ s, cc_src S r = some s ∧ ¬ cc_h E s w') → wX_isWeak_13 post (nI r) (nI c) U C W S E M n (nI w) := by
  intro n
  induction n with
  | zero => intro w _ h; omega
  | succ n ih =>
    intro w hwc hn hall
    have skip : w < c → (¬ W w = 0 → C w = C r → cc_h E w r → ∃ s, cc_src S r = some s ∧ ¬ cc_h E s w) → wX_isWeak_13 post (nI r) (nI c) U C W S E M n (nI (w + 1)) := by
      intro h hh
      refine ih (w + 1) (by omega) (by omega) (fun w' hw' => ?_)
      by_cases e : w' = w
      · rw [e]; exact hh
      · exact hall w' (by omega)
    have skip2 : w < c → (¬ W w = 0 → C w = C r → cc_h E w r → ∃ s, cc_src S r = some s ∧ ¬ cc_h E s w) → wX_isWeak_62 post (wX_isWeak_13 post (nI r) (nI c) U C W S E M n) (nI r) (nI w) (nI c) U C W S E M := by
      intro h hh
      exact br_t rfl (nm_r (nI_1 w) (skip h hh))
    rw [wX_isWeak_13]
    dsimp only
    rw [nI_clamp (show w < 2 ^ 31 by omega), nI_clamp (show r < 2 ^ 31 by omega)]
    refine pk_le c w (fun h => h1 (fun w' hw' => hall w' (by omega))) (fun h => ⟨vp_in_nI (by omega) (by omega), br_c (fun z => skip2 h (fun z' => absurd z z')) (fun zw => ⟨vp_in_nI (by omega) (by omega), vp_in_nI (by omega) (by omega), br_c (fun zc => ⟨vp_in_nI (by omega) (by omega), cc_bu (by omega) (fun z => skip2 h (fun _ _ z' => Bool.noConfusion (z.symm.trans z'))) (fun zh => ?_)⟩) (fun z => skip2 h (fun _ z' => absurd z' z))⟩)⟩)
    unfold wX_isWeak_63
    rw [nI_clamp (show w < 2 ^ 31 by omega), nI_clamp (show r < 2 ^ 31 by omega)]
    refine br_f (by decide) ⟨vp_in_nI (by omega) (by omega), ?_⟩
    rcases cc_wsrc hw hc hr h00 with ⟨hS, hs⟩ | ⟨s, hsr, hS, hs, _, _, _⟩
    · refine br_t (by rw [hS]; decide) (h0 (fun hk => ?_))
      obtain ⟨s, hs2, _⟩ := hk w h zw zc zh
      rw [hs] at hs2; cases hs2
    · rw [hS]
      refine br_f (nI_pos (by omega)) ⟨vp_in_nI (by omega) (by omega), vp_in_nI (by omega) (by omega), cc_bu (by omega) (fun z => nm_r (nI_1 w) (skip h (fun _ _ _ => ⟨s, hs, fun hh => Bool.noConfusion (z.symm.trans hh)⟩))) (fun z => h0 (fun hk => ?_))⟩
      obtain ⟨s', hs2, hn2⟩ := hk w h zw zc zh
      rw [hs] at hs2; cases hs2
      exact hn2 z
theorem cx_weak {M : Nat → Int32} (hw : cc_WF c U C W S E) (hc : c ≤ 8) {post : Int32 → Prop} {r : Nat} (hr : r < c) (h0 : ¬ (W r = 0 → cc_Wk c C W S E r) → post 0) (h1 : (W r = 0 → cc_Wk c C W S E r) → post 1) : wpX_isWeak post (nI c, U, C, W, S, E, M) (nI r) := by
  unfold wpX_isWeak
  dsimp only
  rw [nI_clamp (show r < 2 ^ 31 by omega)]
  exact ⟨vp_in_nI (by omega) (by omega), br_c (fun z => ⟨c + 1, cx_weak_13 hw hc hr z (fun hn => h0 (fun hk => hn (hk z))) (fun hk => h1 (fun _ => hk)) (c + 1) 0 (by omega) (by omega) (fun w' hw' => by omega)⟩) (fun z => h1 (fun z' => absurd z' z))⟩
end
end
section
/-! X: the strong rule, convergence -/
section
variable {c : Nat} {U C W S E : Nat → Int32} {o : Nat}
theorem cx_past (ho : o < 32) (a : Nat) : bt (E o ||| ((1 : Int32) <<< (nI o &&& 31))) a = true ↔ cc_p E o a := by
  rw [b_or, cc_bit ho, Bool.or_eq_true, decide_eq_true_eq]
  exact Iff.rfl
theorem cx_IS0 (hw : cc_WF c U C W S E) (ho : o < c) {M : Nat → Int32} (h : ∀ a, a < c → M a = E a) : cc_IS c U C W S E o M := by
  refine ⟨fun a b ha hb => by rw [h a ha]; exact hb, fun a ha _ => h a ha, fun T hT a b hb hm => ?_⟩
  have hbc : b < c := by have := cc_ple hw ho hb; omega
  rw [h b hbc] at hm
  exact hT.1 a b hb hm
theorem cx_IS_p (hw : cc_WF c U C W S E) (ho : o < c) {M : Nat → Int32} (hI : cc_IS c U C W S E o M) {a b : Nat} (hb : cc_p E o b) (hm : bt (M b) a = true) : cc_p E o a := by
  refine hI.2.2 (fun a _ => cc_p E o a) ⟨?_, ?_, ?_⟩ a b hb hm
  · intro a b hb h; exact cc_pcl hw ho hb h
  · intro a b d h _; exact h
  · intro r s w _ _ _ _ h _ _ _ _; exact h
theorem cx_IS_7 (hw : cc_WF c U C W S E) (hc : c ≤ 7) (ho : o < c) {M : Nat → Int32} (hI : cc_IS c U C W S E o M) {a b : Nat} (ha : a < c) (hm : bt (M a) b = true) : b < 7 := by
  by_cases hp : cc_p E o a
  · have := cc_ple hw ho (cx_IS_p hw ho hI hp hm)
    omega
  · rw [hI.2.1 a ha hp] at hm
    have := cc_wlt hw ha hm
    omega
theorem cx_IS_c (hw : cc_WF c U C W S E) (ho : o < c) {M : Nat → Int32} (hI : cc_IS c U C W S E o M) {a b : Nat} (hp : cc_p E o a) (hm : bt (M a) b = true) : cc_IS c U C W S E o (upd M a (M a ||| M b)) := by
  have hpb := cx_IS_p hw ho hI hp hm
  refine ⟨fun a' b' ha' hb' => ?_, fun a' ha' hn => ?_, fun T hT a' b' hb' hm' => ?_⟩
  · by_cases e : a' = a
    · subst e; rw [pk_us, b_or, hI.1 a' b' ha' hb', Bool.true_or]
    · rw [pk_un e]; exact hI.1 a' b' ha' hb'
  · have e : a' ≠ a := fun e => hn (by rw [e]; exact hp)
    rw [pk_un e]; exact hI.2.1 a' ha' hn
  · by_cases e : b' = a
    · subst e
      rw [pk_us, b_or, Bool.or_eq_true] at hm'
      rcases hm' with h | h
      · exact hI.2.2 T hT a' b' hb' h
      · exact hT.2.1 _ _ _ (hI.2.2 T hT a' b hpb h) (hI.2.2 T hT b b' hb' hm)
    · rw [pk_un e] at hm'
      exact hI.2.2 T hT a' b' hb' hm'
theorem cx_IS_push (hw : cc_WF c U C W S E) (hc : c ≤ 8) (ho : o < c) {M : Nat → Int32} (hI : cc_IS c U C W S E o M) {r s w : Nat} (hr : cc_p E o r) (hr0 : W r = 0) (hu : U r = U o) (hs : cc_src S r = some s) (hsp : cc_p E o s) (hpw : cc_p E o w) (hw0 : ¬ W w = 0) (hwC : C w = C r) (hne : w ≠ s) (hm : bt (M r) w = true) : cc_IS c U C W S E o (upd M s (M s ||| ((1 : Int32) <<< (nI w &&& 31)))) := by
  have hwc : w < 8 := by have := cc_ple hw ho hpw; omega
  refine ⟨fun a' b' ha' hb' => ?_, fun a' ha' hn => ?_, fun T hT a' b' hb' hm' => ?_⟩
  · by_cases e : a' = s
    · subst e; rw [pk_us, b_or, hI.1 a' b' ha' hb', Bool.true_or]
    · rw [pk_un e]; exact hI.1 a' b' ha' hb'
  · have e : a' ≠ s := fun e => hn (by rw [e]; exact hsp)
    rw [pk_un e]; exact hI.2.1 a' ha' hn
  · by_cases e : b' = s
    · subst e
      rw [pk_us, b_or, cc_bit (by omega), Bool.or_eq_true, decide_eq_true_eq] at hm'
      rcases hm' with h | h
      · exact hI.2.2 T hT a' b' hb' h
      · subst h
        exact hT.2.2 r b' a' hr hr0 hu hs hpw hw0 hwC hne (hI.2.2 T hT a' r hr hm)
    · rw [pk_un e] at hm'
      exact hI.2.2 T hT a' b' hb' hm'
theorem cx_str_60 {post : Int32 → SX → Prop} {J : Int32 → Int32 → Int32 → (Nat → Int32) → (Nat → Int32) → (Nat → Int32) → (Nat → Int32) → (Nat → Int32) → (Nat → Int32) → Prop} {x2 : Int32} {k : Nat} (hw : cc_WF c U C W S E) (hc : c ≤ 7) (ho : o < c) (hwi : ∀ a, bt x2 a = true ↔ cc_p E o a) {M0 : Nat → Int32}
    (K0 : (∀ r, r < c → cc_cp U C W S E o M0 r) → cc_ct c x2 M0 → J 0 (nI (k + 1)) (nI c) U C W S E M0) (K1 : ∀ M, cc_IS c U C W S E o M → cc_D M < cc_D M0 → J 1 (nI (k + 1)) (nI c) U C W S E M) :
    ∀ n r ch M, r ≤ c → c - r < n → cc_IS c U C W S E o M → ((ch = 0 ∧ M = M0 ∧ ∀ r', r' < r → cc_cp U C W S E o M0 r') ∨ (ch = 1 ∧ cc_D M < cc_D M0)) → wX_isStrong_60 post J (nI o) x2 (nI k) n ch (nI r) (nI c) U C W S E M := by
  intro n
  induction n with
  | zero => intro r ch M _ h; omega
  | succ n ih =>
    intro r ch M hr hn hI hst
    have hcl : ∀ M a b, cc_IS c U C W S E o M → a < c → b < c → bt x2 a = true → bt (M a) b = true → cc_IS c U C W S E o (upd M a (M a ||| M b)) := fun M a b hI _ _ hp hm => cx_IS_c hw ho hI ((hwi a).mp hp) hm
    have h7 : ∀ M, cc_IS c U C W S E o M → ∀ a b, a < c → bt (M a) b = true → b < 7 := fun M hI a b ha hm => cx_IS_7 hw hc ho hI ha hm
    have skip : r < c → (¬ (cc_p E o r ∧ W r = 0 ∧ U r = U o) ∨ cc_src S r = none) → wX_isStrong_60 post J (nI o) x2 (nI k) n ch (nI (r + 1)) (nI c) U C W S E M := by
      intro hrc hno
      refine ih (r + 1) ch M (by omega) (by omega) hI ?_
      rcases hst with ⟨e, em, hall⟩ | h2
      · refine Or.inl ⟨e, em, fun r' hr' => ?_⟩
        by_cases e2 : r' = r
        · subst e2
          intro g1 g2 g3 s w hs
          rcases hno with h | h
          · exact absurd ⟨g1, g2, g3⟩ h
          · rw [h] at hs; cases hs
        · exact hall r' (by omega)
      · exact Or.inr h2
    have skip2 : r < c → ¬ (cc_p E o r ∧ W r = 0 ∧ U r = U o) → wX_isStrong_108 post J (wX_isStrong_60 post J (nI o) x2 (nI k) n) (nI o) x2 ch (nI k) (nI r) (nI c) U C W S E M := by
      intro hrc hno
      exact br_t rfl (nm_r (nI_1 r) (skip hrc (Or.inl hno)))
    rw [wX_isStrong_60]
    dsimp only
    rw [nI_clamp (show r < 2 ^ 31 by omega), nI_clamp (show o < 2 ^ 31 by omega)]
    refine pk_le c r (fun h => cx_close (by omega) hcl h7 hI (fun hct => ?_) (fun M' hI' hD' => ?_)) (fun h => cc_bu (by omega) (fun z => skip2 h (fun hh => Bool.noConfusion (z.symm.trans ((hwi r).mpr hh.1)))) (fun zp => ⟨vp_in_nI (by omega) (by omega), br_c (fun z0 => ⟨vp_in_nI (by omega) (by omega), vp_in_nI (by omega) (by omega), br_c (fun zu => ?_) (fun zu => skip2 h (fun hh => zu hh.2.2))⟩) (fun z0 => skip2 h (fun hh => z0 hh.2.1))⟩))
    · dsimp only
      rcases hst with ⟨e, em, hall⟩ | ⟨e, h2⟩
      · subst e em
        exact br_t rfl (br_t rfl (nm_r (nI_1 k) (K0 (fun r' hr' => hall r' (by omega)) hct)))
      · subst e
        exact br_t rfl (br_f (by decide) (nm_r (nI_1 k) (K1 M hI h2)))
    · dsimp only
      refine br_f (by decide) (nm_r (nI_1 k) (K1 M' hI' ?_))
      rcases hst with ⟨_, em, _⟩ | ⟨_, h2⟩
      · rw [← em]; exact hD'
      · omega
    · unfold wX_isStrong_109
      rw [nI_clamp (show r < 2 ^ 31 by omega)]
      refine br_f (by decide) ⟨vp_in_nI (by omega) (by omega), ?_⟩
      rcases cc_wsrc hw (by omega) h z0 with ⟨hS, hs⟩ | ⟨s, hsr, hS, hs, hsw, hsc, hsh⟩
      · exact br_t (by rw [hS]; decide) (nm_r (nI_1 r) (skip h (Or.inr hs)))
      · have hpr := (hwi r).mp zp
        refine br_f (by rw [hS]; exact nI_pos (by omega)) (cx_push (by omega) h hsr hS hI (fun M w hI hwc hne hw0 hwC hpw hm => cx_IS_push hw (by omega) ho hI hpr z0 zu hs (cc_pcl hw ho hpr hsh) ((hwi w).mp hpw) hw0 hwC hne hm) h7 (fun hpu => ?_) (fun M' hI' hD' => ?_))
        · dsimp only
          refine br_t rfl ?_
          rcases hst with ⟨e, em, hall⟩ | ⟨e, h2⟩
          · subst e em
            refine br_t rfl (nm_r (nI_1 r) (ih (r + 1) 0 M (by omega) (by omega) hI (Or.inl ⟨rfl, rfl, fun r' hr' => ?_⟩)))
            by_cases e2 : r' = r
            · subst e2
              intro g1 g2 g3 s' w hs' hpw hw0 hwC hne hm
              rw [hs] at hs'; cases hs'
              exact hpu w (by have := cc_ple hw ho hpw; omega) hne hw0 hwC ((hwi w).mpr hpw) hm
            · exact hall r' (by omega)
          · subst e
            exact br_f (by decide) (nm_r (nI_1 r) (ih (r + 1) 1 M (by omega) (by omega) hI (Or.inr ⟨rfl, h2⟩)))
        · dsimp only
          refine br_f (by decide) (nm_r (nI_1 r) (ih (r + 1) 1 M' (by omega) (by omega) hI' (Or.inr ⟨rfl, ?_⟩)))
          rcases hst with ⟨_, em, _⟩ | ⟨_, h2⟩
          · rw [← em]; exact hD'
          · omega
theorem cx_str_44 {post : Int32 → SX → Prop} {x2 : Int32} (hw : cc_WF c U C W S E) (hc : c ≤ 7) (ho : o < c) (hwi : ∀ a, bt x2 a = true ↔ cc_p E o a)
    (hfin : ∀ M, cc_IS c U C W S E o M → cc_ct c x2 M → (∀ r, r < c → cc_cp U C W S E o M r) → wX_isStrong_176 post (nI o) x2 (nI c) U C W S E M) :
    ∀ n k M, cc_IS c U C W S E o M → k + cc_D M ≤ 56 → 60 - k < n → wX_isStrong_44 post (nI o) x2 n 1 (nI k) (nI c) U C W S E M := by
  intro n
  induction n with
  | zero => intro k M _ _ h; omega
  | succ n ih =>
    intro k M hI hk hn
    rw [wX_isStrong_44]
    dsimp only
    refine pk_le 60 k (fun h => by omega) (fun h => br_f (by decide) ⟨c + 1, cx_str_60 hw hc ho hwi (fun hcp hct => ?_) (fun M' hI' hD' => ih (k + 1) M' hI' (by omega) (by omega)) (c + 1) 0 0 M (by omega) (by omega) hI (Or.inl ⟨rfl, rfl, fun r' hr' => by omega⟩)⟩)
    cases n with
    | zero => omega
    | succ n => exact br_c (fun _ => hfin M hI hct hcp) (fun _ => br_t rfl (hfin M hI hct hcp))
theorem cx_str_13 {post : Int32 → SX → Prop} {x1 x2 : Int32} (hc : c ≤ 8) (K : ∀ M, (∀ a, a < c → M a = E a) → ∃ n44 : Nat, wX_isStrong_44 post x1 x2 n44 1 0 (nI c) U C W S E M) :
    ∀ n a M, a ≤ c → c - a < n → (∀ a', a' < a → M a' = E a') → wX_isStrong_13 post x1 x2 (nI c) n (nI a) U C W S E M := by
  intro n
  induction n with
  | zero => intro a M _ h; omega
  | succ n ih =>
    intro a M ha hn hall
    rw [wX_isStrong_13]
    dsimp only
    rw [nI_clamp (show a < 2 ^ 31 by omega)]
    refine pk_le c a (fun h => K M (fun a' ha' => hall a' (by omega))) (fun h => ⟨vp_in_nI (by omega) (by omega), vp_in_nI (by omega) (by omega), nm_e (nm_r (nI_1 a) (ih (a + 1) _ (by omega) (by omega) (fun a' ha' => ?_)))⟩)
    by_cases e : a' = a
    · rw [e, pk_us]
    · rw [pk_un e]; exact hall a' (by omega)
theorem cx_isStrong {post : Int32 → SX → Prop} {M0 : Nat → Int32} (hw : cc_WF c U C W S E) (hc : c ≤ 7) (ho : o < c)
    (h0 : ∀ M, ¬ cc_Row C W S E o (cc_mu U o 1) → post 0 (nI c, U, C, W, S, E, M)) (h1 : ∀ M, cc_Row C W S E o (cc_mu U o 1) → post 1 (nI c, U, C, W, S, E, M)) : wpX_isStrong post (nI c, U, C, W, S, E, M0) (nI o) := by
  have hwi : ∀ a, bt (E o ||| ((1 : Int32) <<< (nI o &&& 31))) a = true ↔ cc_p E o a := cx_past (by omega)
  unfold wpX_isStrong
  dsimp only
  rw [nI_clamp (show o < 2 ^ 31 by omega)]
  refine ⟨vp_in_nI (by omega) (by omega), nm_e ⟨c + 1, cx_str_13 (by omega) (fun M hM => ⟨61, cx_str_44 hw hc ho hwi (fun M hI hct hcp => ?_) 61 0 M (cx_IS0 hw ho hM) (by have := cc_D56 M; omega) (by omega)⟩) (c + 1) 0 M0 (by omega) (by omega) (fun a' ha' => by omega)⟩⟩
  have hiff := cc_strong hwi hw (by omega) ho hI hct hcp
  unfold wX_isStrong_176
  refine cx_ring (by omega) (fun hr => br_t rfl (cx_late (by omega) ho hwi (fun hl => br_t rfl (h1 M (hiff.mpr ⟨hr, hl⟩))) (fun hl => br_f (by decide) (h0 M (fun hrow => (hiff.mp hrow).2 hl))))) (fun hr => br_f (by decide) (h0 M (fun hrow => (hiff.mp hrow).1 hr)))
end
end
section
/-! X: convergence -/
section
variable {c : Nat} {U C W S E : Nat → Int32}
theorem cx_I20 {M : Nat → Int32} (h : ∀ a, a < c → M a = E a) : cc_I2 c C W S E M := by
  refine ⟨fun a b ha hb => by rw [h a ha]; exact hb, fun T hT a b hb hm => ?_⟩
  rw [h b hb] at hm
  exact hT.1 a b hb hm
theorem cx_I2_c {M : Nat → Int32} (hI : cc_I2 c C W S E M) {a b : Nat} (hac : a < c) (hbc : b < c) (hm : bt (M a) b = true) : cc_I2 c C W S E (upd M a (M a ||| M b)) := by
  refine ⟨fun a' b' ha' hb' => ?_, fun T hT a' b' hb' hm' => ?_⟩
  · by_cases e : a' = a
    · subst e; rw [pk_us, b_or, hI.1 a' b' ha' hb', Bool.true_or]
    · rw [pk_un e]; exact hI.1 a' b' ha' hb'
  · by_cases e : b' = a
    · subst e
      rw [pk_us, b_or, Bool.or_eq_true] at hm'
      rcases hm' with h | h
      · exact hI.2 T hT a' b' hb' h
      · exact hT.2.1 _ _ _ (hI.2 T hT a' b hbc h) (hI.2 T hT b b' hb' hm)
    · rw [pk_un e] at hm'
      exact hI.2 T hT a' b' hb' hm'
theorem cx_I2_push (hc : c ≤ 8) {M : Nat → Int32} (hI : cc_I2 c C W S E M) {r s w : Nat} (hr : r < c) (hr0 : W r = 0) (hs : cc_src S r = some s) (hwc : w < c) (hw0 : ¬ W w = 0) (hwC : C w = C r) (hh : cc_h E w r) (hne : w ≠ s) : cc_I2 c C W S E (upd M s (M s ||| ((1 : Int32) <<< (nI w &&& 31)))) := by
  refine ⟨fun a' b' ha' hb' => ?_, fun T hT a' b' hb' hm' => ?_⟩
  · by_cases e : a' = s
    · subst e; rw [pk_us, b_or, hI.1 a' b' ha' hb', Bool.true_or]
    · rw [pk_un e]; exact hI.1 a' b' ha' hb'
  · by_cases e : b' = s
    · subst e
      rw [pk_us, b_or, cc_bit (by omega), Bool.or_eq_true, decide_eq_true_eq] at hm'
      rcases hm' with h | h
      · exact hI.2 T hT a' b' hb' h
      · subst h
        exact hT.2.2 r b' a' hr hr0 hs hwc hw0 hwC hh hne
    · rw [pk_un e] at hm'
      exact hI.2 T hT a' b' hb' hm'
theorem cx_I2_7 (hw : cc_WF c U C W S E) (hc : c ≤ 8) (hW7 : ∀ w, w < c → ¬ W w = 0 → w < 7) {M : Nat → Int32} (hI : cc_I2 c C W S E M) {a b : Nat} (ha : a < c) (hm : bt (M a) b = true) : b < 7 := by
  refine hI.2 (fun a _ => a < 7) ⟨?_, ?_, ?_⟩ b a ha hm
  · intro a b hb h; have := cc_wlt hw hb h; omega
  · intro a b d h _; exact h
  · intro r s w _ _ _ h1 h2 _ _ _; exact hW7 w h1 h2
theorem cx_pu_mono {M N : Nat → Int32} (h : ∀ a b, bt (M a) b = true → bt (N a) b = true) {r w : Nat} (hp : cc_pu c C W S E M r w) : cc_pu c C W S E N r w := by
  intro g1 g2 g3 g4
  obtain ⟨s, hs, hh⟩ := hp g1 g2 g3 g4
  exact ⟨s, hs, fun hne => h _ _ (hh hne)⟩
theorem cx_or_mono {M : Nat → Int32} {a : Nat} {x : Int32} : ∀ a' b', bt (M a') b' = true → bt (upd M a (M a ||| x) a') b' = true := by
  intro a' b' h
  by_cases e : a' = a
  · subst e; rw [pk_us, b_or, h, Bool.true_or]
  · rw [pk_un e]; exact h
theorem cx_con_40 {post : Int32 → SX → Prop} {J : Int32 → (Nat → Int32) → (Nat → Int32) → (Nat → Int32) → (Nat → Int32) → (Nat → Int32) → (Nat → Int32) → Prop} (hw : cc_WF c U C W S E) (hc : c ≤ 8) {r : Nat} (hr : r < c)
    (hbad : ∀ M, cc_Ini c C W S E → post 0 (nI c, U, C, W, S, E, M)) (K : ∀ M, cc_I2 c C W S E M → (∀ r', r' < r + 1 → ∀ w', w' < c → cc_pu c C W S E M r' w') → J (nI (r + 1)) U C W S E M) :
    ∀ n w M, w ≤ c → c - w < n → cc_I2 c C W S E M → (∀ r', r' < r → ∀ w', w' < c → cc_pu c C W S E M r' w') → (∀ w', w' < w → cc_pu c C W S E M r w') → wX_converges_40 post J (nI r) (nI c) n (nI w) U C W S E M := by
  intro n
  induction n with
  | zero => intro w M _ h; omega
  | succ n ih =>
    intro w M hwc hn hI hall hrow
    have skip : w < c → cc_pu c C W S E M r w → wX_converges_40 post J (nI r) (nI c) n (nI (w + 1)) U C W S E M := by
      intro h hh
      refine ih (w + 1) M (by omega) (by omega) hI hall (fun w' hw' => ?_)
      by_cases e : w' = w
      · rw [e]; exact hh
      · exact hrow w' (by omega)
    have skip2 : w < c → cc_pu c C W S E M r w → wX_converges_98 post J (wX_converges_40 post J (nI r) (nI c) n) (nI r) (nI w) (nI c) U C W S E M := by
      intro h hh
      exact br_t rfl (br_t rfl (nm_r (nI_1 w) (skip h hh)))
    rw [wX_converges_40]
    dsimp only
    rw [nI_clamp (show w < 2 ^ 31 by omega), nI_clamp (show r < 2 ^ 31 by omega)]
    refine pk_le c w (fun h => nm_r (nI_1 r) (K M hI (fun r' hr' w' hw' => ?_))) (fun h => ⟨vp_in_nI (by omega) (by omega), br_c (fun z0 => ⟨vp_in_nI (by omega) (by omega), br_c (fun z => skip2 h (fun _ z' => absurd z z')) (fun zw => ⟨vp_in_nI (by omega) (by omega), vp_in_nI (by omega) (by omega), br_c (fun zc => ⟨vp_in_nI (by omega) (by omega), cc_bu (by omega) (fun z => skip2 h (fun _ _ _ z' => Bool.noConfusion (z.symm.trans z'))) (fun zh => ?_)⟩) (fun z => skip2 h (fun _ _ z' => absurd z' z))⟩)⟩) (fun z => skip2 h (fun z' => absurd z' z))⟩)
    · by_cases e : r' = r
      · rw [e]; exact hrow w' (by omega)
      · exact hall r' (by omega) w' hw'
    · unfold wX_converges_99
      rw [nI_clamp (show r < 2 ^ 31 by omega)]
      refine br_f (by decide) ⟨vp_in_nI (by omega) (by omega), ?_⟩
      rcases cc_wsrc hw hc hr z0 with ⟨hS, hs⟩ | ⟨s, hsr, hS, hs, hsw, hsc, hsh⟩
      · exact br_f (by rw [hS]; decide) (hbad M ⟨r, w, hr, h, z0, hs, zw, zc, zh⟩)
      · refine br_t (by rw [hS]; exact nI_pos' (by omega)) ?_
        unfold wX_converges_115
        rw [nI_clamp (show r < 2 ^ 31 by omega), hS, nI_clamp (show s < 2 ^ 31 by omega)]
        refine br_f (by decide) ⟨vp_in_nI (by omega) (by omega), pk_eq w s (fun e => nm_r (nI_1 w) (skip h (fun _ _ _ _ => ⟨s, hs, fun hne => absurd e hne⟩))) (fun hne => ⟨vp_in_nI (by omega) (by omega), vp_in_nI (by omega) (by omega), vp_in_nI (by omega) (by omega), nm_e (nm_r (nI_1 w) (ih (w + 1) _ (by omega) (by omega) (cx_I2_push hc hI hr z0 hs h zw zc zh hne) (fun r' hr' w' hw' => cx_pu_mono cx_or_mono (hall r' hr' w' hw')) (fun w' hw' => ?_)))⟩)⟩
        by_cases e : w' = w
        · subst e
          intro _ _ _ _
          exact ⟨s, hs, fun _ => by rw [pk_us, b_or, cc_bit (by omega)]; simp⟩
        · exact cx_pu_mono cx_or_mono (hrow w' (by omega))
theorem cx_con_30 {post : Int32 → SX → Prop} (hw : cc_WF c U C W S E) (hc : c ≤ 8)
    (hbad : ∀ M, cc_Ini c C W S E → post 0 (nI c, U, C, W, S, E, M)) (K : ∀ M, cc_I2 c C W S E M → (∀ r', r' < c → ∀ w', w' < c → cc_pu c C W S E M r' w') → ∃ n162 : Nat, wX_converges_162 post n162 1 0 (nI c) U C W S E M) :
    ∀ n r M, r ≤ c → c - r < n → cc_I2 c C W S E M → (∀ r', r' < r → ∀ w', w' < c → cc_pu c C W S E M r' w') → wX_converges_30 post (nI c) n (nI r) U C W S E M := by
  intro n
  induction n with
  | zero => intro r M _ h; omega
  | succ n ih =>
    intro r M hr hn hI hall
    rw [wX_converges_30]
    dsimp only
    exact pk_le c r (fun h => K M hI (fun r' hr' => hall r' (by omega))) (fun h => ⟨c + 1, cx_con_40 hw hc h hbad (fun M' hI' hall' => ih (r + 1) M' (by omega) (by omega) hI' hall') (c + 1) 0 M (by omega) (by omega) hI hall (fun w' hw' => by omega)⟩)
theorem cx_con_162 {post : Int32 → SX → Prop} (hw : cc_WF c U C W S E) (hc : c ≤ 8) (hW7 : ∀ w, w < c → ¬ W w = 0 → w < 7)
    (hfin : ∀ M, cc_I2 c C W S E M → (∀ r', r' < c → ∀ w', w' < c → cc_pu c C W S E M r' w') → cc_ct c 255 M → wX_converges_186 post (nI c) U C W S E M) :
    ∀ n k M, cc_I2 c C W S E M → (∀ r', r' < c → ∀ w', w' < c → cc_pu c C W S E M r' w') → k + cc_D M ≤ 56 → 60 - k < n → wX_converges_162 post n 1 (nI k) (nI c) U C W S E M := by
  intro n
  induction n with
  | zero => intro k M _ _ _ h; omega
  | succ n ih =>
    intro k M hI hpu hk hn
    rw [wX_converges_162]
    dsimp only
    refine pk_le 60 k (fun h => by omega) (fun h => br_f (by decide) (cx_close (Inv := fun M => cc_I2 c C W S E M ∧ ∀ r', r' < c → ∀ w', w' < c → cc_pu c C W S E M r' w') hc (fun M a b hI ha hb _ hm => ⟨cx_I2_c hI.1 ha hb hm, fun r' hr' w' hw' => cx_pu_mono cx_or_mono (hI.2 r' hr' w' hw')⟩) (fun M hI a b ha hm => cx_I2_7 hw hc hW7 hI.1 ha hm) ⟨hI, hpu⟩ (fun hct => ?_) (fun M' hI' hD' => ?_)))
    · dsimp only
      refine nm_r (nI_1 k) ?_
      cases n with
      | zero => omega
      | succ n => exact br_c (fun _ => hfin M hI hpu hct) (fun _ => br_t rfl (hfin M hI hpu hct))
    · dsimp only
      exact nm_r (nI_1 k) (ih (k + 1) M' hI'.1 hI'.2 (by omega) (by omega))
theorem cx_con_2 {post : Int32 → SX → Prop} (hc : c ≤ 8) (K : ∀ M, (∀ a, a < c → M a = E a) → ∃ n30 : Nat, wX_converges_30 post (nI c) n30 0 U C W S E M) :
    ∀ n a M, a ≤ c → c - a < n → (∀ a', a' < a → M a' = E a') → wX_converges_2 post (nI c) n (nI a) U C W S E M := by
  intro n
  induction n with
  | zero => intro a M _ h; omega
  | succ n ih =>
    intro a M ha hn hall
    rw [wX_converges_2]
    dsimp only
    rw [nI_clamp (show a < 2 ^ 31 by omega)]
    refine pk_le c a (fun h => K M (fun a' ha' => hall a' (by omega))) (fun h => ⟨vp_in_nI (by omega) (by omega), vp_in_nI (by omega) (by omega), nm_e (nm_r (nI_1 a) (ih (a + 1) _ (by omega) (by omega) (fun a' ha' => ?_)))⟩)
    by_cases e : a' = a
    · rw [e, pk_us]
    · rw [pk_un e]; exact hall a' (by omega)
theorem cx_converges {post : Int32 → SX → Prop} {M0 : Nat → Int32} (hw : cc_WF c U C W S E) (hc : c ≤ 8) (hW7 : ∀ w, w < c → ¬ W w = 0 → w < 7)
    (h0 : ∀ M, ¬ cc_Cv c C W S E → post 0 (nI c, U, C, W, S, E, M)) (h1 : ∀ M, cc_Cv c C W S E → post 1 (nI c, U, C, W, S, E, M)) : wpX_converges post (nI c, U, C, W, S, E, M0) := by
  refine ⟨c + 1, cx_con_2 hc (fun M hM => ⟨c + 1, cx_con_30 hw hc (fun M hi => h0 M (cc_conv_ini hi)) (fun M hI hpu => ⟨61, cx_con_162 hw hc hW7 (fun M hI hpu hct => ?_) 61 0 M hI hpu (by have := cc_D56 M; omega) (by omega)⟩) (c + 1) 0 M (by omega) (by omega) (cx_I20 hM) (fun r' hr' => by omega)⟩) (c + 1) 0 M0 (by omega) (by omega) (fun a' ha' => by omega)⟩
  have hiff := cc_conv hw hc hI (fun a b d ha hb h1 h2 => hct a b d ha hb (by rw [b_255]; exact decide_eq_true (by omega)) h1 h2) hpu
  unfold wX_converges_186
  exact cx_ring hc (fun hr => br_t rfl (h1 M (hiff.mpr hr))) (fun hr => br_f (by decide) (h0 M (fun hcv => hiff.mp hcv hr)))
end
end
section
/-! entering an operation, on both sides; sources -/
def cx_ev (U E : Nat → Int32) (p0 p3 : Int32) : Nat → Int32
  | 0 => 0
  | k + 1 => if U k = p0 ∨ nI k = p3 then cx_ev U E p0 p3 k ||| (((1 : Int32) <<< (nI k &&& 31)) ||| E k) else cx_ev U E p0 p3 k
section
variable {c : Nat} {U C W S E : Nat → Int32}
theorem cx_ev_t {p0 p3 : Int32} : ∀ k, k < 32 → ∀ a, bt (cx_ev U E p0 p3 k) a = true ↔ ∃ j, j < k ∧ (U j = p0 ∨ nI j = p3) ∧ (a = j ∨ cc_h E a j) := by
  intro k
  induction k with
  | zero =>
    intro _ a
    rw [cx_ev, b_0]
    constructor
    · intro h; cases h
    · rintro ⟨j, hj, _⟩; omega
  | succ k ih =>
    intro hk a
    rw [cx_ev]
    by_cases h : U k = p0 ∨ nI k = p3
    · rw [if_pos h, b_or, b_or, cc_bit (by omega), Bool.or_eq_true, Bool.or_eq_true, decide_eq_true_eq, ih (by omega)]
      constructor
      · rintro (⟨j, hj, h1, h2⟩ | h1)
        · exact ⟨j, by omega, h1, h2⟩
        · exact ⟨k, by omega, h, h1⟩
      · rintro ⟨j, hj, h1, h2⟩
        by_cases e : j = k
        · subst e; exact Or.inr h2
        · exact Or.inl ⟨j, by omega, h1, h2⟩
    · rw [if_neg h, ih (by omega)]
      constructor
      · rintro ⟨j, hj, h1, h2⟩
        exact ⟨j, by omega, h1, h2⟩
      · rintro ⟨j, hj, h1, h2⟩
        by_cases e : j = k
        · subst e; exact absurd h1 h
        · exact ⟨j, by omega, h1, h2⟩
theorem cc_WF_mono (hw : cc_WF c U C W S E) {c' : Nat} (h : c' ≤ c) : cc_WF c' U C W S E := fun i hi => hw i (by omega)
/-- what can be named as a source -/
def cc_so (c : Nat) (C W : Nat → Int32) (cell s : Int32) : Prop := s = -1 ∨ ∃ j, j < c ∧ s = nI j ∧ ¬ W j = 0 ∧ C j = cell
theorem cc_WF_enter (hw : cc_WF c U C W S E) (hc : c ≤ 8) {p0 p1 p2 p3 : Int32} (h1 : p1 = 0 ∨ p1 = 1) (h3 : p2 = 0 → cc_so c C W p1 p3) : cc_WF (c + 1) (upd U c p0) (upd C c p1) (upd W c p2) (upd S c p3) (upd E c (cx_ev U E p0 p3 c)) := by
  have hev := cx_ev_t (U := U) (E := E) (p0 := p0) (p3 := p3) c (by omega)
  intro i hi
  by_cases e : i = c
  · subst e
    simp only [cc_h, pk_us]
    refine ⟨h1, fun hp => ?_, fun a ha => ?_, fun a b ha hb => ?_, fun a ha hu => ?_⟩
    · rcases h3 hp with h | ⟨j, hj, e, hj0, hjc⟩
      · exact Or.inl h
      · have hne : j ≠ i := by omega
        refine Or.inr ⟨j, hj, e, ?_, ?_, (hev j).mpr ⟨j, hj, Or.inr e.symm, Or.inl rfl⟩⟩
        · rw [pk_un hne]; exact hj0
        · rw [pk_un hne]; exact hjc
    · obtain ⟨j, hj, _, h⟩ := (hev a).mp ha
      rcases h with h | h
      · omega
      · have := cc_wlt hw hj h
        omega
    · obtain ⟨j, hj, hcond, h⟩ := (hev a).mp ha
      have haj : a ≤ j := by
        rcases h with h | h
        · omega
        · have := cc_wlt hw hj h
          omega
      rw [pk_un (show a ≠ i by omega)] at hb
      refine (hev b).mpr ⟨j, hj, hcond, Or.inr ?_⟩
      rcases h with h | h
      · subst h; exact hb
      · exact cc_wtr hw hj h hb
    · rw [pk_un (show a ≠ i by omega)] at hu
      exact (hev a).mpr ⟨a, ha, Or.inl hu, Or.inl rfl⟩
  · have hic : i < c := by omega
    obtain ⟨g1, g2, g3, g4, g5⟩ := hw i hic
    simp only [cc_h, pk_un e]
    refine ⟨g1, fun hp => ?_, g3, fun a b ha hb => ?_, fun a ha hu => ?_⟩
    · rcases g2 hp with h | ⟨s, hs, e1, e2, e3, e4⟩
      · exact Or.inl h
      · refine Or.inr ⟨s, hs, e1, ?_, ?_, e4⟩
        · rw [pk_un (show s ≠ c by omega)]; exact e2
        · rw [pk_un (show s ≠ c by omega)]; exact e3
    · have := g3 a ha
      rw [pk_un (show a ≠ c by omega)] at hb
      exact g4 a b ha hb
    · rw [pk_un (show a ≠ c by omega)] at hu
      exact g5 a ha hu
theorem cx_enter_54 {post : SX → Prop} {p0 p3 : Int32} (hc : c < 8) {U' C' W' S' M : Nat → Int32} (hU : ∀ o, o < c → U' o = U o) (K : post (nI (c + 1), U', C', W', S', upd E c (cx_ev U E p0 p3 c), M)) :
    ∀ n o, o ≤ c → c - o < n → wX_enter_54 post p0 p3 (nI c) n (nI o) U' C' W' S' (upd E c (cx_ev U E p0 p3 o)) M := by
  intro n
  induction n with
  | zero => intro o _ h; omega
  | succ n ih =>
    intro o ho hn
    have e81 : o < c → (U o = p0 ∨ nI o = p3) → wX_enter_81 post (wX_enter_54 post p0 p3 (nI c) n) p0 p3 (nI o) (nI c) U' C' W' S' (upd E c (cx_ev U E p0 p3 o)) M := by
      intro h hcond
      unfold wX_enter_81
      rw [nI_clamp (show o < 2 ^ 31 by omega), nI_clamp (show c < 2 ^ 31 by omega), pk_us, pk_un (show o ≠ c by omega), cc_upd2]
      refine ⟨vp_in_nI (by omega) (by omega), vp_in_nI (by omega) (by omega), vp_in_nI (by omega) (by omega), nm_r (e' := upd E c (cx_ev U E p0 p3 (o + 1))) ?_ (nm_r (nI_1 o) (ih (o + 1) (by omega) (by omega)))⟩
      rw [cx_ev, if_pos hcond]
    rw [wX_enter_54]
    dsimp only
    rw [nI_clamp (show o < 2 ^ 31 by omega)]
    refine pk_le c o (fun h => ?_) (fun h => ⟨vp_in_nI (by omega) (by omega), br_c (fun z => e81 h (Or.inl ((hU o h).symm.trans z))) (fun z => br_c (fun z2 => e81 h (Or.inr z2)) (fun z2 => nm_r (nI_1 o) ?_))⟩)
    · have e : o = c := by omega
      subst e
      exact nm_r (nI_1 o) K
    · have hcond : ¬ (U o = p0 ∨ nI o = p3) := by
        rintro (h1 | h1)
        · exact z ((hU o h).trans h1)
        · exact z2 h1
      have h2 := ih (o + 1) (by omega) (by omega)
      rw [cx_ev, if_neg hcond] at h2
      exact h2
theorem cc_nb : vp_nar .boolean 0 = 0 ∧ vp_nar .boolean 1 = 1 := ⟨rfl, rfl⟩
theorem cx_enter {post : SX → Prop} {p0 p1 p2 p3 : Int32} (hc : c < 8) {M : Nat → Int32} (h2 : p2 = 0 ∨ p2 = 1)
    (K : post (nI (c + 1), upd U c p0, upd C c p1, upd W c p2, upd S c p3, upd E c (cx_ev U E p0 p3 c), M)) : wpX_enter post (nI c, U, C, W, S, E, M) p0 p1 p2 p3 := by
  have hn : vp_nar .boolean p2 = p2 := by
    rcases h2 with h | h
    · rw [h]; exact cc_nb.1
    · rw [h]; exact cc_nb.2
  unfold wpX_enter
  dsimp only
  rw [nI_clamp (show c < 2 ^ 31 by omega), hn]
  have hi : vp_in (nI c) 8 := vp_in_nI (by omega) (by omega)
  exact ⟨hi, nm_e ⟨hi, nm_e ⟨hi, nm_e ⟨hi, nm_e ⟨hi, nm_e ⟨c + 1, cx_enter_54 hc (fun o ho => pk_un (by omega)) K (c + 1) 0 (by omega) (by omega)⟩⟩⟩⟩⟩⟩
theorem cy_put_47 {post : SY → Prop} {p0 p2 p3 : Int32} (hc : c < 8) (h2 : p2 = 0 ∨ (p2 = 1 ∧ p3 = -1)) {U' C' W' S' R O : Nat → Int32} (hU : ∀ o, o < c → U' o = U o) (K : post (nI c, U', C', W', S', upd E c (cx_ev U E p0 p3 c), R, O)) :
    ∀ n o, o ≤ c → c - o < n → wY_put_47 post p0 p2 p3 (nI c) U' C' W' S' E R O n (cx_ev U E p0 p3 o) (nI o) := by
  intro n
  induction n with
  | zero => intro o _ h; omega
  | succ n ih =>
    intro o ho hn
    have e78 : o < c → (U o = p0 ∨ nI o = p3) → wY_put_78 post (wY_put_47 post p0 p2 p3 (nI c) U' C' W' S' E R O n) p0 p2 p3 (cx_ev U E p0 p3 o) (nI o) (nI c) U' C' W' S' E R O := by
      intro h hcond
      unfold wY_put_78
      rw [nI_clamp (show o < 2 ^ 31 by omega)]
      refine ⟨vp_in_nI (by omega) (by omega), nm_r (e' := cx_ev U E p0 p3 (o + 1)) ?_ (nm_r (nI_1 o) (ih (o + 1) (by omega) (by omega)))⟩
      rw [cx_ev, if_pos hcond, cc_orc (E o)]
    have skip : o < c → ¬ (U o = p0 ∨ nI o = p3) → wY_put_47 post p0 p2 p3 (nI c) U' C' W' S' E R O n (cx_ev U E p0 p3 o) (nI (o + 1)) := by
      intro h hcond
      have h2 := ih (o + 1) (by omega) (by omega)
      rw [cx_ev, if_neg hcond] at h2
      exact h2
    rw [wY_put_47]
    dsimp only
    rw [nI_clamp (show o < 2 ^ 31 by omega), nI_clamp (show c < 2 ^ 31 by omega)]
    refine pk_le c o (fun h => ⟨vp_in_nI (by omega) (by omega), ?_⟩) (fun h => ⟨vp_in_nI (by omega) (by omega), br_c (fun z => e78 h (Or.inl ((hU o h).symm.trans z))) (fun z => br_c (fun z3 => br_c (fun z2 => e78 h (Or.inr z2)) (fun z2 => nm_r (nI_1 o) (skip h ?_))) (fun z3 => nm_r (nI_1 o) (skip h ?_)))⟩)
    · have e : o = c := by omega
      subst e
      exact nm_e K
    · rintro (h1 | h1)
      · exact z ((hU o h).trans h1)
      · exact z2 h1
    · rintro (h1 | h1)
      · exact z ((hU o h).trans h1)
      · rcases h2 with h2 | ⟨_, h2⟩
        · exact z3 h2
        · exact cc_bneg o (by omega) (h1.trans h2)
theorem cy_put {post : SY → Prop} {p0 p1 p2 p3 : Int32} (hc : c < 8) {R O : Nat → Int32} (h2 : p2 = 0 ∨ (p2 = 1 ∧ p3 = -1))
    (K : post (nI c, upd U c p0, upd C c p1, upd W c p2, upd S c p3, upd E c (cx_ev U E p0 p3 c), R, O)) : wpY_put post (nI c, U, C, W, S, E, R, O) p0 p1 p2 p3 := by
  have hn : vp_nar .boolean p2 = p2 := by
    rcases h2 with h | ⟨h, _⟩
    · rw [h]; exact cc_nb.1
    · rw [h]; exact cc_nb.2
  unfold wpY_put
  dsimp only
  rw [nI_clamp (show c < 2 ^ 31 by omega), hn]
  have hi : vp_in (nI c) 8 := vp_in_nI (by omega) (by omega)
  exact ⟨hi, nm_e ⟨hi, nm_e ⟨hi, nm_e ⟨hi, nm_e ⟨c + 1, cy_put_47 hc h2 (fun o ho => pk_un (by omega)) K (c + 1) 0 (by omega) (by omega)⟩⟩⟩⟩⟩
theorem cx_isSource {post : Int32 → Prop} (hc : c ≤ 8) {M : Nat → Int32} {s cell : Int32} (h0 : ¬ cc_so c C W cell s → post 0) (h1 : cc_so c C W cell s → post 1) : wpX_isSource post (nI c, U, C, W, S, E, M) s cell := by
  unfold wpX_isSource
  dsimp only
  refine br_c (fun z => h1 (Or.inl z)) (fun z => ?_)
  rcases pk_ix s (n := c) (by omega) with h | h | ⟨j, hj, rfl⟩
  · refine br_t h (h0 ?_)
    rintro (h2 | ⟨j, hj, e, _⟩)
    · exact z h2
    · rw [e] at h; exact nI_pos (by omega) h
  · refine br_f (fun hn => ?_) (br_t h (h0 ?_))
    · have h3 : nI c < 0 := Int32.lt_of_le_of_lt h hn
      exact nI_pos (by omega) h3
    · rintro (h2 | ⟨j, hj, e, _⟩)
      · exact z h2
      · rw [e] at h; exact nI_ge hj (by omega) h
  · rw [nI_clamp (show j < 2 ^ 31 by omega)]
    refine br_f (nI_pos (by omega)) (br_f (nI_ge hj (by omega)) ⟨vp_in_nI (by omega) (by omega), br_c (fun z0 => h0 ?_) (fun z0 => ⟨vp_in_nI (by omega) (by omega), br_c (fun zc => h1 (Or.inr ⟨j, hj, rfl, z0, zc⟩)) (fun zc => h0 ?_)⟩)⟩)
    · rintro (h2 | ⟨j', hj', e, g1, g2⟩)
      · exact z h2
      · rw [nI_eq (by omega) (by omega)] at e
        subst e; exact g1 z0
    · rintro (h2 | ⟨j', hj', e, g1, g2⟩)
      · exact z h2
      · rw [nI_eq (by omega) (by omega)] at e
        subst e; exact zc g2
theorem cy_noSource {post : Int32 → Prop} (hc : c ≤ 8) {R O : Nat → Int32} {s cell : Int32} (h0 : ¬ cc_so c C W cell s → post 1) (h1 : cc_so c C W cell s → post 0) : wpY_noSource post (nI c, U, C, W, S, E, R, O) cell s := by
  unfold wpY_noSource
  dsimp only
  refine br_c (fun z => h1 (Or.inl z)) (fun z => ?_)
  rcases pk_ix s (n := c) (by omega) with h | h | ⟨j, hj, rfl⟩
  · refine br_t h (h0 ?_)
    rintro (h2 | ⟨j, hj, e, _⟩)
    · exact z h2
    · rw [e] at h; exact nI_pos (by omega) h
  · refine br_f (fun hn => ?_) (br_t h (h0 ?_))
    · have h3 : nI c < 0 := Int32.lt_of_le_of_lt h hn
      exact nI_pos (by omega) h3
    · rintro (h2 | ⟨j, hj, e, _⟩)
      · exact z h2
      · rw [e] at h; exact nI_ge hj (by omega) h
  · rw [nI_clamp (show j < 2 ^ 31 by omega)]
    refine br_f (nI_pos (by omega)) (br_f (nI_ge hj (by omega)) ⟨vp_in_nI (by omega) (by omega), br_c (fun z0 => h0 ?_) (fun z0 => ⟨vp_in_nI (by omega) (by omega), br_c (fun zc => h1 (Or.inr ⟨j, hj, rfl, z0, zc⟩)) (fun zc => h0 ?_)⟩)⟩)
    · rintro (h2 | ⟨j', hj', e, g1, g2⟩)
      · exact z h2
      · rw [nI_eq (by omega) (by omega)] at e
        subst e; exact g1 z0
    · rintro (h2 | ⟨j', hj', e, g1, g2⟩)
      · exact z h2
      · rw [nI_eq (by omega) (by omega)] at e
        subst e; exact zc g2
end
end
section
/-! Y: the table of rows -/
def cy_st : List Nat → Nat
  | [] => 0
  | a :: L => cy_st L ||| 2 ^ a
def cy_lw (C W : Nat → Int32) (cell : Int32) (L : List Nat) : Nat := (L.find? (cc_m C W cell)).getD 8
def cy_ix (C W : Nat → Int32) (L : List Nat) : Nat := 81 * cy_st L + (9 * cy_lw C W 0 L + cy_lw C W 1 L)
def cy_rt (S : Nat → Int32) (x m : Nat) : Prop := nI m = (if 0 ≤ S x then S x else 8)
def cy_mine (C : Nat → Int32) (i x : Nat) : Nat := if C x = 0 then i % 81 / 9 else i % 81 % 9
def cy_nl (C W : Nat → Int32) (i x : Nat) : Nat := if W x = 0 then i % 81 else if C x = 0 then 9 * x + i % 81 % 9 else i % 81 / 9 * 9 + x
def cy_tg (C W : Nat → Int32) (i x : Nat) : Nat := 81 * ((i / 81) ||| 2 ^ x) + cy_nl C W i x
def cy_cd (C W S E : Nat → Int32) (o : Nat) (mu : Nat → Prop) (i x : Nat) : Prop := cc_p E o x ∧ bt (nI (i / 81)) x = false ∧ (∀ b, cc_h E b x → bt (nI (i / 81)) b = true) ∧ (W x = 0 → mu x → cy_rt S x (cy_mine C i x))
theorem cy_st_lt : ∀ L : List Nat, (∀ a, a ∈ L → a < 7) → cy_st L < 2 ^ 7 := by
  intro L
  induction L with
  | nil => intro _; decide
  | cons x L ih =>
    intro h
    exact Nat.or_lt_two_pow (ih (fun a ha => h a (List.mem_cons_of_mem _ ha))) (Nat.pow_lt_pow_right (by decide) (h x List.mem_cons_self))
theorem cy_st_t : ∀ L : List Nat, ∀ a, (cy_st L).testBit a = true ↔ a ∈ L := by
  intro L
  induction L with
  | nil => intro a; simp [cy_st]
  | cons x L ih =>
    intro a
    rw [cy_st, Nat.testBit_or, Nat.testBit_two_pow, Bool.or_eq_true, ih, decide_eq_true_eq, List.mem_cons]
    constructor
    · rintro (h | h)
      · exact Or.inr h
      · exact Or.inl h.symm
    · rintro (h | h)
      · exact Or.inr h.symm
      · exact Or.inl h
theorem cy_bt {L : List Nat} (h : ∀ a, a ∈ L → a < 7) (a : Nat) : bt (nI (cy_st L)) a = true ↔ a ∈ L := by
  rcases Nat.lt_or_ge a 32 with hl | hl
  · rw [cc_bn hl, cy_st_t]
  · rw [b_big hl]
    constructor
    · intro h; cases h
    · intro ha; have := h a ha; omega
theorem cy_lw_le {C W : Nat → Int32} {cell : Int32} {L : List Nat} (h : ∀ a, a ∈ L → a < 7) : cy_lw C W cell L ≤ 8 := by
  unfold cy_lw
  cases hf : L.find? (cc_m C W cell) with
  | none => exact Nat.le_refl 8
  | some s =>
    have := h s (cc_f2 L hf).1
    show s ≤ 8
    omega
theorem cy_lw_cons {C W : Nat → Int32} {cell : Int32} {L : List Nat} {x : Nat} : cy_lw C W cell (x :: L) = if ¬ W x = 0 ∧ C x = cell then x else cy_lw C W cell L := by
  unfold cy_lw
  by_cases h : ¬ W x = 0 ∧ C x = cell
  · rw [if_pos h, List.find?_cons_of_pos (cc_m_t.mpr h)]; rfl
  · rw [if_neg h, List.find?_cons_of_neg (fun hh => h (cc_m_t.mp hh))]
section
variable {c : Nat} {U C W S E : Nat → Int32} {o : Nat} {mu : Nat → Prop}
theorem cy_ix_f {L : List Nat} (h : ∀ a, a ∈ L → a < 7) : cy_ix C W L < 10368 ∧ cy_ix C W L / 81 = cy_st L ∧ cy_ix C W L % 81 / 9 = cy_lw C W 0 L ∧ cy_ix C W L % 81 % 9 = cy_lw C W 1 L := by
  have h1 := cy_st_lt L h
  have h2 := cy_lw_le (C := C) (W := W) (cell := 0) h
  have h3 := cy_lw_le (C := C) (W := W) (cell := 1) h
  unfold cy_ix
  generalize cy_st L = p at *
  generalize cy_lw C W 0 L = q at *
  generalize cy_lw C W 1 L = r at *
  have h4 : p < 128 := h1
  omega
theorem cy_ix_mono {L : List Nat} {x : Nat} (h : ∀ a, a ∈ x :: L → a < 7) (hx : x ∉ L) : cy_ix C W L < cy_ix C W (x :: L) := by
  have h2 := cy_lw_le (C := C) (W := W) (cell := 0) (L := L) (fun a ha => h a (List.mem_cons_of_mem _ ha))
  have h3 := cy_lw_le (C := C) (W := W) (cell := 1) (L := L) (fun a ha => h a (List.mem_cons_of_mem _ ha))
  have h4 : cy_st L < cy_st (x :: L) := by
    have h5 : cy_st L ≤ cy_st (x :: L) := Nat.left_le_or
    refine Nat.lt_of_le_of_ne h5 (fun e => hx ?_)
    rw [← cy_st_t, e, cy_st_t]
    exact List.mem_cons_self
  unfold cy_ix
  generalize cy_st L = p at *
  generalize cy_st (x :: L) = p' at *
  omega
theorem cy_ok7 (hw : cc_WF c U C W S E) (hc : c ≤ 7) (ho : o < c) {L : List Nat} (hok : cc_ok C W S E o mu L) : ∀ a, a ∈ L → a < 7 := by
  intro a ha
  have := cc_ple hw ho (cc_ok_p L hok a ha)
  omega
theorem cy_rt_iff (hw : cc_WF c U C W S E) (hc : c ≤ 7) {x : Nat} (hx : x < c) (h0 : W x = 0) {L : List Nat} (h : ∀ a, a ∈ L → a < 7) : L.find? (cc_m C W (C x)) = cc_src S x ↔ cy_rt S x (cy_lw C W (C x) L) := by
  unfold cy_rt cy_lw
  rcases cc_wsrc hw (by omega) hx h0 with ⟨hS, hs⟩ | ⟨s, hsx, hS, hs, _, _, _⟩
  · rw [hs, hS, if_neg (by decide)]
    cases hf : L.find? (cc_m C W (C x)) with
    | none => exact ⟨fun _ => rfl, fun _ => rfl⟩
    | some a =>
      have := h a (cc_f2 L hf).1
      constructor
      · intro h; cases h
      · intro h
        have h9 : nI a = nI 8 := h
        rw [nI_eq (by omega) (by omega)] at h9
        omega
  · rw [hs, hS, if_pos (nI_pos' (by omega))]
    cases hf : L.find? (cc_m C W (C x)) with
    | none =>
      constructor
      · intro h; cases h
      · intro h
        have h9 : nI 8 = nI s := h
        rw [nI_eq (by omega) (by omega)] at h9
        omega
    | some a =>
      have := h a (cc_f2 L hf).1
      show some a = some s ↔ nI a = nI s
      rw [nI_eq (by omega) (by omega), Option.some.injEq]
theorem cy_mine_ix (hC : ∀ x, x < c → C x = 0 ∨ C x = 1) {x : Nat} (hx : x < c) {L : List Nat} (h : ∀ a, a ∈ L → a < 7) : cy_mine C (cy_ix C W L) x = cy_lw C W (C x) L := by
  obtain ⟨_, _, h3, h4⟩ := cy_ix_f (C := C) (W := W) h
  unfold cy_mine
  rcases hC x hx with e | e
  · rw [if_pos e, h3, e]
  · rw [if_neg (by rw [e]; decide), h4, e]
theorem cy_tr1 (hw : cc_WF c U C W S E) (hc : c ≤ 7) (ho : o < c) {x : Nat} (hx : x < c) {L : List Nat} (hok : cc_ok C W S E o mu L) : cc_ok C W S E o mu (x :: L) ↔ cy_cd C W S E o mu (cy_ix C W L) x := by
  have h := cy_ok7 hw hc ho hok
  have hf := cy_ix_f (C := C) (W := W) h
  unfold cy_cd
  rw [hf.2.1, cy_mine_ix (fun x hx => (hw x hx).1) hx h]
  constructor
  · rintro ⟨_, g1, g2, g3, g4⟩
    refine ⟨g1, cc_nt (fun hb => g2 ((cy_bt h x).mp hb)), fun b hb => (cy_bt h b).mpr (g3 b hb), fun h0 hm => (cy_rt_iff hw hc hx h0 h).mp (g4 h0 hm)⟩
  · rintro ⟨g1, g2, g3, g4⟩
    refine ⟨hok, g1, fun hb => ?_, fun b hb => (cy_bt h b).mp (g3 b hb), fun h0 hm => (cy_rt_iff hw hc hx h0 h).mpr (g4 h0 hm)⟩
    rw [(cy_bt h x).mpr hb] at g2
    cases g2
theorem cy_tr2 (hC : ∀ x, x < c → C x = 0 ∨ C x = 1) {x : Nat} (hx : x < c) {L : List Nat} (h : ∀ a, a ∈ L → a < 7) : cy_ix C W (x :: L) = cy_tg C W (cy_ix C W L) x := by
  obtain ⟨h1, h2, h3, h4⟩ := cy_ix_f (C := C) (W := W) h
  unfold cy_tg cy_nl
  rw [h2, h3, h4]
  have h5 : cy_ix C W L % 81 = 9 * cy_lw C W 0 L + cy_lw C W 1 L := by omega
  rw [h5]
  have e : cy_ix C W (x :: L) = 81 * (cy_st L ||| 2 ^ x) + (9 * cy_lw C W 0 (x :: L) + cy_lw C W 1 (x :: L)) := rfl
  rw [e, cy_lw_cons, cy_lw_cons]
  by_cases hW : W x = 0
  · rw [if_neg (fun hh => hh.1 hW), if_neg (fun hh => hh.1 hW), if_pos hW]
  · rw [if_neg hW]
    rcases hC x hx with e0 | e0
    · rw [if_pos ⟨hW, e0⟩, if_neg (fun hh => absurd (e0.symm.trans hh.2) (by decide)), if_pos e0]
    · rw [if_neg (fun hh => absurd (e0.symm.trans hh.2) (by decide)), if_pos ⟨hW, e0⟩, if_neg (by rw [e0]; decide)]
      omega
theorem cy_tg_lt {i x : Nat} (hi : i < 10368) (hx : x < 7) : (i / 81) ||| 2 ^ x < 128 ∧ cy_nl C W i x < 81 ∧ cy_tg C W i x < 10368 := by
  have h1 : (i / 81) ||| 2 ^ x < 2 ^ 7 := Nat.or_lt_two_pow (by omega) (Nat.pow_lt_pow_right (by decide) hx)
  have h2 : cy_nl C W i x < 81 := by
    unfold cy_nl
    split
    · omega
    · split
      · omega
      · omega
  refine ⟨h1, h2, ?_⟩
  unfold cy_tg
  generalize (i / 81) ||| 2 ^ x = p at *
  have h3 : p < 128 := h1
  omega
theorem cy_orN {k x : Nat} (hx : x < 32) : nI k ||| ((1 : Int32) <<< (nI x &&& 31)) = nI (k ||| 2 ^ x) := by
  apply b_ext
  intro i hi
  rw [b_or, cc_bit hx, cc_bn hi, cc_bn hi, Nat.testBit_or, Nat.testBit_two_pow]
  congr 1
  rw [Bool.eq_iff_iff, decide_eq_true_eq, decide_eq_true_eq]
  exact ⟨Eq.symm, Eq.symm⟩
theorem cy_after {post : Int32 → Prop} {R O : Nat → Int32} {l x : Nat} {m : Int32} (hx : x < 8) (hl : l < 81)
    (hr : W x = 0 → (m = 0 ∨ nI (if C x = 0 then l / 9 else l % 9) = (if 0 ≤ S x then S x else 8)) → post (nI l))
    (hn : W x = 0 → ¬ m = 0 → ¬ nI (if C x = 0 then l / 9 else l % 9) = (if 0 ≤ S x then S x else 8) → post (-1))
    (hw0 : ¬ W x = 0 → C x = 0 → post (nI (9 * x + l % 9))) (hw1 : ¬ W x = 0 → ¬ C x = 0 → post (nI (l / 9 * 9 + x))) : wpY_after post (nI c, U, C, W, S, E, R, O) (nI l) (nI x) m := by
  have hd : nI l / 9 = nI (l / 9) := pk_div (a := l) (d := 9) (by omega) (by decide) (by decide)
  have hm : nI l - nI l / 9 * 9 = nI (l % 9) := pk_rem (a := l) (d := 9) (by omega) (by decide) (by decide)
  have h20 : ∀ z : Nat, (if C x = 0 then l / 9 else l % 9) = z → wY_after_20 post (nI l) (nI x) m (nI z) (nI c) U C W S E R O := by
    intro z hz
    rw [hz] at hr hn
    unfold wY_after_20
    rw [nI_clamp (show x < 2 ^ 31 by omega), hm, hd]
    refine ⟨vp_in_nI (by omega) (by omega), br_c (fun zw => br_c (fun zm => hr zw (Or.inl zm)) (fun zm => ⟨vp_in_nI (by omega) (by omega), br_c (fun zs => ⟨vp_in_nI (by omega) (by omega), ?_⟩) (fun zs => ?_)⟩)) (fun zw => ⟨vp_in_nI (by omega) (by omega), br_c (fun zc => ⟨by decide, ?_⟩) (fun zc => ⟨by decide, ?_⟩)⟩)⟩
    · rw [if_pos zs] at hr hn
      exact br_c (fun e => hr zw (Or.inr e)) (fun e => hn zw zm e)
    · rw [if_neg zs] at hr hn
      exact br_c (fun e => hr zw (Or.inr e)) (fun e => hn zw zm e)
    · have e : (9 : Int32) * nI x + nI (l % 9) = nI (9 * x + l % 9) := by
        rw [show (9 : Int32) * nI x = nI (9 * x) from pk_mul 9 x, nI_add]
      rw [e]; exact hw0 zw zc
    · have e : nI (l / 9) * (9 : Int32) + nI x = nI (l / 9 * 9 + x) := by
        rw [show nI (l / 9) * (9 : Int32) = nI (l / 9 * 9) from pk_mul (l / 9) 9, nI_add]
      rw [e]; exact hw1 zw zc
  unfold wpY_after
  dsimp only
  rw [nI_clamp (show x < 2 ^ 31 by omega), hm, hd]
  exact ⟨vp_in_nI (by omega) (by omega), br_c (fun zc => ⟨by decide, h20 _ (if_pos zc)⟩) (fun zc => ⟨by decide, h20 _ (if_neg zc)⟩)⟩
end
end
section
/-! Y: hasRow -/
section
variable {c : Nat} {U C W S E : Nat → Int32} {o : Nat}
theorem cy_181m {post : Int32 → SY → Prop} {J47 J65 : Int32 → (Nat → Int32) → (Nat → Int32) → (Nat → Int32) → (Nat → Int32) → (Nat → Int32) → (Nat → Int32) → (Nat → Int32) → Prop} {x1 x2 x3 x4 x5 : Int32} {x : Nat} {R O : Nat → Int32} (K : J65 (nI (x + 1)) U C W S E R O) : wY_hasRow_181 post J47 J65 x1 x2 x3 x4 x5 (nI x) (-1) (nI c) U C W S E R O :=
  br_t (by decide) (nm_r (nI_1 x) K)
theorem cy_181p {post : Int32 → SY → Prop} {J47 J65 : Int32 → (Nat → Int32) → (Nat → Int32) → (Nat → Int32) → (Nat → Int32) → (Nat → Int32) → (Nat → Int32) → (Nat → Int32) → Prop} {x1 x2 x3 x4 : Int32} {k x l : Nat} {R O : Nat → Int32} (hx : x < 7) (hk : k ||| 2 ^ x < 128) (hl : l < 81) (K : J65 (nI (x + 1)) U C W S E (upd R (81 * (k ||| 2 ^ x) + l) 1) O) : wY_hasRow_181 post J47 J65 x1 x2 x3 x4 (nI k) (nI x) (nI l) (nI c) U C W S E R O := by
  unfold wY_hasRow_181
  have e : (81 : Int32) * (nI k ||| ((1 : Int32) <<< (nI x &&& 31))) + nI l = nI (81 * (k ||| 2 ^ x) + l) := by
    rw [cy_orN (by omega), show (81 : Int32) * nI (k ||| 2 ^ x) = nI (81 * (k ||| 2 ^ x)) from pk_mul 81 _, nI_add]
  rw [e]
  generalize k ||| 2 ^ x = p at *
  rw [nI_clamp (show 81 * p + l < 2 ^ 31 by omega), cc_nb.2]
  exact br_f (nI_pos (by omega)) ⟨vp_in_nI (by omega) (by omega), nm_e (nm_r (nI_1 x) K)⟩
theorem cy_157 {post : Int32 → SY → Prop} {J47 J65 : Int32 → (Nat → Int32) → (Nat → Int32) → (Nat → Int32) → (Nat → Int32) → (Nat → Int32) → (Nat → Int32) → (Nat → Int32) → Prop} {x1 x2 x3 : Int32} {i x : Nat} {m : Int32} {R O : Nat → Int32} (hx : x < 7) (hi : i < 10368)
    (K1 : (W x = 0 → ¬ m = 0 → cy_rt S x (cy_mine C i x)) → J65 (nI (x + 1)) U C W S E (upd R (cy_tg C W i x) 1) O) (K0 : W x = 0 → ¬ m = 0 → ¬ cy_rt S x (cy_mine C i x) → J65 (nI (x + 1)) U C W S E R O) : wY_hasRow_157 post J47 J65 x1 x2 x3 (nI i) (nI (i / 81)) (nI x) 1 m (nI c) U C W S E R O := by
  have hm : nI i - nI i / 81 * 81 = nI (i % 81) := pk_rem (a := i) (d := 81) (by omega) (by decide) (by decide)
  obtain ⟨ht1, ht2, ht3⟩ := cy_tg_lt (C := C) (W := W) hi hx
  unfold wY_hasRow_157
  rw [hm]
  unfold cy_tg at K1
  unfold cy_nl at K1 ht2
  refine br_f (by decide) ⟨by decide, cy_after (by omega) (by omega) (fun zw hr => ?_) (fun zw zm hn => ?_) (fun zw zc => ?_) (fun zw zc => ?_)⟩
  · rw [if_pos zw] at K1 ht2
    refine cy_181p hx ht1 ht2 (K1 (fun _ zm => ?_))
    rcases hr with h | h
    · exact absurd h zm
    · exact h
  · exact cy_181m (K0 zw zm hn)
  · rw [if_neg zw, if_pos zc] at K1 ht2
    exact cy_181p hx ht1 ht2 (K1 (fun z => absurd z zw))
  · rw [if_neg zw, if_neg zc] at K1 ht2
    exact cy_181p hx ht1 ht2 (K1 (fun z => absurd z zw))
theorem cy_123 {post : Int32 → SY → Prop} {J47 J65 : Int32 → (Nat → Int32) → (Nat → Int32) → (Nat → Int32) → (Nat → Int32) → (Nat → Int32) → (Nat → Int32) → (Nat → Int32) → Prop} {x2 x3 x4 x5 : Int32} {x : Nat} {R O : Nat → Int32} (hx : x < 8) (ho : o < 8) (K : J65 (nI (x + 1)) U C W S E R O) : wY_hasRow_123 post J47 J65 (nI o) x2 x3 x4 x5 (nI x) (nI c) U C W S E R O :=
  br_c (fun _ => br_t rfl (cy_181m K)) (fun _ => br_c (fun _ => br_t rfl (cy_181m K)) (fun _ => ⟨vp_in_nI (by omega) (by omega), vp_in_nI (by omega) (by omega), br_c (fun _ => br_t rfl (cy_181m K)) (fun _ => br_t rfl (cy_181m K))⟩))
theorem cy_124 {post : Int32 → SY → Prop} {J47 J65 : Int32 → (Nat → Int32) → (Nat → Int32) → (Nat → Int32) → (Nat → Int32) → (Nat → Int32) → (Nat → Int32) → (Nat → Int32) → Prop} {x2 x3 : Int32} {i x : Nat} {R O : Nat → Int32} (hx : x < 7) (ho : o < 7) (hi : i < 10368)
    (K1 : (W x = 0 → cc_mu U o x2 x → cy_rt S x (cy_mine C i x)) → J65 (nI (x + 1)) U C W S E (upd R (cy_tg C W i x) 1) O) (K0 : ¬ (W x = 0 → cc_mu U o x2 x → cy_rt S x (cy_mine C i x)) → J65 (nI (x + 1)) U C W S E R O) : wY_hasRow_124 post J47 J65 (nI o) x2 x3 (nI i) (nI (i / 81)) (nI x) 1 (nI c) U C W S E R O := by
  have hy : cc_mu U o x2 x → wY_hasRow_152 post J47 J65 (nI o) x2 x3 (nI i) (nI (i / 81)) (nI x) 1 (nI c) U C W S E R O := by
    intro hmu
    exact cy_157 hx hi (fun h => K1 (fun z _ => h z (by decide))) (fun z _ hn => K0 (fun h => hn (h z hmu)))
  have hn : ¬ cc_mu U o x2 x → wY_hasRow_156 post J47 J65 (nI o) x2 x3 (nI i) (nI (i / 81)) (nI x) 1 (nI c) U C W S E R O := by
    intro hmu
    exact cy_157 hx hi (fun h => K1 (fun _ z => absurd z hmu)) (fun _ z _ => absurd rfl z)
  unfold wY_hasRow_124
  rw [nI_clamp (show x < 2 ^ 31 by omega), nI_clamp (show o < 2 ^ 31 by omega)]
  refine pk_eq x o (fun e => hy (Or.inl e)) (fun e => br_c (fun z => hn ?_) (fun z => ⟨vp_in_nI (by omega) (by omega), vp_in_nI (by omega) (by omega), br_c (fun zu => hy (Or.inr ⟨z, zu⟩)) (fun zu => hn ?_)⟩))
  · rintro (h | ⟨h, _⟩)
    · exact e h
    · exact h z
  · rintro (h | ⟨_, h⟩)
    · exact e h
    · exact zu h
/-- the table when all below i has gone on -/
def cy_Inv (C W S E : Nat → Int32) (o : Nat) (mu : Nat → Prop) (i : Nat) (R : Nat → Int32) : Prop := (∀ j, j < 10368 → ¬ R j = 0 → ∃ L, cc_ok C W S E o mu L ∧ cy_ix C W L = j) ∧ ¬ R 80 = 0 ∧ (∀ L x, cc_ok C W S E o mu (x :: L) → cy_ix C W L < i → ¬ R (cy_ix C W (x :: L)) = 0)
theorem cy_Inv_all {mu : Nat → Prop} (hw : cc_WF c U C W S E) (hc : c ≤ 7) (ho : o < c) {i : Nat} {R : Nat → Int32} (h : cy_Inv C W S E o mu i R) {L : List Nat} (hok : cc_ok C W S E o mu L) (hi : cy_ix C W L ≤ i) : ¬ R (cy_ix C W L) = 0 := by
  cases L with
  | nil => exact h.2.1
  | cons x L =>
    have := cy_ix_mono (C := C) (W := W) (cy_ok7 hw hc ho hok) hok.2.2.1
    exact h.2.2 L x hok (by omega)
theorem cy_65 {post : Int32 → SY → Prop} {J47 : Int32 → (Nat → Int32) → (Nat → Int32) → (Nat → Int32) → (Nat → Int32) → (Nat → Int32) → (Nat → Int32) → (Nat → Int32) → Prop} {x2 x3 : Int32} {O : Nat → Int32} (hw : cc_WF c U C W S E) (hc : c ≤ 7) (ho : o < c) (hwi : ∀ a, bt x3 a = true ↔ cc_p E o a) {i : Nat} (hi : i < 10368)
    (K : ∀ R, cy_Inv C W S E o (cc_mu U o x2) (i + 1) R → J47 (nI (i + 1)) U C W S E R O) :
    ∀ n x R, x ≤ c → c - x < n → cy_Inv C W S E o (cc_mu U o x2) i R → (∀ L y, y < x → cc_ok C W S E o (cc_mu U o x2) (y :: L) → cy_ix C W L = i → ¬ R (cy_ix C W (y :: L)) = 0) → wY_hasRow_65 post J47 (nI o) x2 x3 (nI i) (nI (i / 81)) (nI c) n (nI x) U C W S E R O := by
  intro n
  induction n with
  | zero => intro x R _ h; omega
  | succ n ih =>
    intro x R hx hn hI hrow
    have skip : x < c → ¬ cy_cd C W S E o (cc_mu U o x2) i x → wY_hasRow_65 post J47 (nI o) x2 x3 (nI i) (nI (i / 81)) (nI c) n (nI (x + 1)) U C W S E R O := by
      intro h hcd
      refine ih (x + 1) R (by omega) (by omega) hI (fun L y hy hok hix => ?_)
      by_cases e : y = x
      · subst e
        have h1 := (cy_tr1 hw hc ho h hok.1).mp hok
        rw [hix] at h1
        exact absurd h1 hcd
      · exact hrow L y (by omega) hok hix
    have skip2 : x < c → ¬ cy_cd C W S E o (cc_mu U o x2) i x → wY_hasRow_123 post J47 (wY_hasRow_65 post J47 (nI o) x2 x3 (nI i) (nI (i / 81)) (nI c) n) (nI o) x2 x3 (nI i) (nI (i / 81)) (nI x) (nI c) U C W S E R O := fun h hcd => cy_123 (by omega) (by omega) (skip h hcd)
    rw [wY_hasRow_65]
    dsimp only
    rw [nI_clamp (show x < 2 ^ 31 by omega), nI_clamp (show i < 2 ^ 31 by omega)]
    refine pk_le c x (fun h => nm_r (nI_1 i) (K R ⟨hI.1, hI.2.1, fun L y hok hlt => ?_⟩)) (fun h => ⟨vp_in_nI (by omega) (by omega), br_c (fun zr => nm_r (nI_1 i) (K R ⟨hI.1, hI.2.1, fun L y hok hlt => ?_⟩)) (fun zr => cc_bs1 (by omega) (fun zp => cc_bs0 (by omega) (fun zb => ⟨vp_in_nI (by omega) (by omega), cc_bsub (fun zs => cy_124 (by omega) (by omega) hi (fun hrt => ?_) (fun hrt => skip h (fun hcd => hrt hcd.2.2.2))) (fun zs => skip2 h (fun hcd => zs hcd.2.2.1))⟩) (fun zb => skip2 h (fun hcd => Bool.noConfusion (zb.symm.trans hcd.2.1)))) (fun zp => skip2 h (fun hcd => Bool.noConfusion (zp.symm.trans ((hwi x).mpr hcd.1)))))⟩)
    · by_cases e : cy_ix C W L = i
      · have hy := cc_ple hw ho hok.2.1
        exact hrow L y (by omega) hok e
      · exact hI.2.2 L y hok (by omega)
    · by_cases e : cy_ix C W L = i
      · exact absurd (by rw [e]; exact zr) (cy_Inv_all hw hc ho hI hok.1 (by omega))
      · exact hI.2.2 L y hok (by omega)
    · have hcd : cy_cd C W S E o (cc_mu U o x2) i x := ⟨(hwi x).mp zp, zb, zs, hrt⟩
      have keep : ∀ j, ¬ R j = 0 → ¬ upd R (cy_tg C W i x) 1 j = 0 := by
        intro j hj
        by_cases e : j = cy_tg C W i x
        · rw [e, pk_us]; decide
        · rw [pk_un e]; exact hj
      refine ih (x + 1) _ (by omega) (by omega) ⟨fun j hj hR => ?_, keep 80 hI.2.1, fun L y hok hlt => keep _ (hI.2.2 L y hok hlt)⟩ (fun L y hy hok hix => ?_)
      · by_cases e : j = cy_tg C W i x
        · obtain ⟨L, hok, hix⟩ := hI.1 i hi zr
          refine ⟨x :: L, (cy_tr1 hw hc ho h hok).mpr (by rw [hix]; exact hcd), ?_⟩
          rw [cy_tr2 (fun x hx => (hw x hx).1) h (cy_ok7 hw hc ho hok), hix, e]
        · rw [pk_un e] at hR
          exact hI.1 j hj hR
      · by_cases e : y = x
        · subst e
          rw [cy_tr2 (fun x hx => (hw x hx).1) h (cy_ok7 hw hc ho hok.1), hix, pk_us]
          decide
        · exact keep _ (hrow L y (by omega) hok hix)
theorem cy_47 {post : Int32 → SY → Prop} {x2 x3 : Int32} {O : Nat → Int32} (hw : cc_WF c U C W S E) (hc : c ≤ 7) (ho : o < c) (hwi : ∀ a, bt x3 a = true ↔ cc_p E o a)
    (K : ∀ R, cy_Inv C W S E o (cc_mu U o x2) 10368 R → ∃ n222 : Nat, wY_hasRow_222 post x3 (nI c) U C W S E R O n222 0) :
    ∀ n i R, i ≤ 10368 → 10368 - i < n → cy_Inv C W S E o (cc_mu U o x2) i R → wY_hasRow_47 post (nI o) x2 x3 (nI c) n (nI i) U C W S E R O := by
  intro n
  induction n with
  | zero => intro i R _ h; omega
  | succ n ih =>
    intro i R hi hn hI
    have hd : nI i / 81 = nI (i / 81) := pk_div (a := i) (d := 81) (by omega) (by decide) (by decide)
    rw [wY_hasRow_47]
    dsimp only
    rw [hd]
    refine pk_le 10368 i (fun h => K R ?_) (fun h => ⟨by decide, nm_e ⟨c + 1, cy_65 hw hc ho hwi h (fun R' hI' => ih (i + 1) R' (by omega) (by omega) hI') (c + 1) 0 R (by omega) (by omega) hI (fun L y hy => by omega)⟩⟩)
    have e : i = 10368 := by omega
    rw [← e]; exact hI
theorem cy_14 {post : Int32 → SY → Prop} {x1 x2 x3 : Int32} {O : Nat → Int32}
    (K : ∀ R, (∀ j, j < 10368 → R j = 0) → ∃ n47 : Nat, wY_hasRow_47 post x1 x2 x3 (nI c) n47 0 U C W S E (upd R 80 1) O) :
    ∀ n i R, i ≤ 10368 → 10368 - i < n → (∀ j, j < i → R j = 0) → wY_hasRow_14 post x1 x2 x3 (nI c) n (nI i) U C W S E R O := by
  intro n
  induction n with
  | zero => intro i R _ h; omega
  | succ n ih =>
    intro i R hi hn hall
    rw [wY_hasRow_14]
    dsimp only
    rw [nI_clamp (show i < 2 ^ 31 by omega), cc_nb.1, cc_nb.2]
    refine pk_le 10368 i (fun h => nm_e (K R (fun j hj => hall j (by omega)))) (fun h => ⟨vp_in_nI (by omega) (by omega), nm_e (nm_r (nI_1 i) (ih (i + 1) _ (by omega) (by omega) (fun j hj => ?_)))⟩)
    by_cases e : j = i
    · rw [e, pk_us]
    · rw [pk_un e]; exact hall j (by omega)
theorem cy_222 {post : Int32 → SY → Prop} {R O : Nat → Int32} {k : Nat} (hk : k < 128) (h0 : (∀ l, l < 81 → R (81 * k + l) = 0) → post 0 (nI c, U, C, W, S, E, R, O)) (h1 : ∀ l, l < 81 → ¬ R (81 * k + l) = 0 → post 1 (nI c, U, C, W, S, E, R, O)) :
    ∀ n l, l ≤ 81 → 81 - l < n → (∀ l', l' < l → R (81 * k + l') = 0) → wY_hasRow_222 post (nI k) (nI c) U C W S E R O n (nI l) := by
  intro n
  induction n with
  | zero => intro l _ h; omega
  | succ n ih =>
    intro l hl hn hall
    have e : (81 : Int32) * nI k + nI l = nI (81 * k + l) := by
      rw [show (81 : Int32) * nI k = nI (81 * k) from pk_mul 81 _, nI_add]
    rw [wY_hasRow_222]
    dsimp only
    rw [e, nI_clamp (show 81 * k + l < 2 ^ 31 by omega)]
    refine pk_le 81 l (fun h => h0 (fun l' hl' => hall l' (by omega))) (fun h => ⟨vp_in_nI (by omega) (by omega), br_c (fun z => nm_r (nI_1 l) (ih (l + 1) (by omega) (by omega) (fun l' hl' => ?_))) (fun z => h1 l h z)⟩)
    by_cases e2 : l' = l
    · rw [e2]; exact z
    · exact hall l' (by omega)
theorem cy_hasRow {post : Int32 → SY → Prop} {R0 O : Nat → Int32} {all : Int32} (hw : cc_WF c U C W S E) (hc : c ≤ 7) (ho : o < c)
    (h0 : ∀ R, ¬ cc_Row C W S E o (cc_mu U o all) → post 0 (nI c, U, C, W, S, E, R, O)) (h1 : ∀ R, cc_Row C W S E o (cc_mu U o all) → post 1 (nI c, U, C, W, S, E, R, O)) : wpY_hasRow post (nI c, U, C, W, S, E, R0, O) (nI o) all := by
  have hwi : ∀ a, bt (E o ||| ((1 : Int32) <<< (nI o &&& 31))) a = true ↔ cc_p E o a := cx_past (by omega)
  have hp7 : ∀ a, bt (E o ||| ((1 : Int32) <<< (nI o &&& 31))) a = true → a < 7 := by
    intro a ha
    have := cc_ple hw ho ((hwi a).mp ha)
    omega
  obtain ⟨k, hk, hkb, hkt⟩ : ∃ k, k < 128 ∧ E o ||| ((1 : Int32) <<< (nI o &&& 31)) = nI k ∧ ∀ a, k.testBit a = true ↔ cc_p E o a := by
    refine ⟨cy_st ((List.range 7).filter (fun a => bt (E o ||| ((1 : Int32) <<< (nI o &&& 31))) a)), cy_st_lt _ (fun a ha => ?_), b_ext (fun i hi => ?_), fun a => ?_⟩
    · exact List.mem_range.mp (List.mem_filter.mp ha).1
    · rw [cc_bn hi, Bool.eq_iff_iff, cy_st_t, List.mem_filter, List.mem_range]
      exact ⟨fun h => ⟨hp7 i h, h⟩, fun h => h.2⟩
    · rw [cy_st_t, List.mem_filter, List.mem_range, hwi]
      exact ⟨fun h => h.2, fun h => ⟨hp7 a ((hwi a).mpr h), h⟩⟩
  have hst : ∀ L, cc_ok C W S E o (cc_mu U o all) L → ((∀ a, cc_p E o a → a ∈ L) ↔ cy_st L = k) := by
    intro L hok
    constructor
    · intro hful
      apply Nat.eq_of_testBit_eq
      intro a
      rw [Bool.eq_iff_iff, cy_st_t, hkt]
      exact ⟨fun h => cc_ok_p L hok a h, fun h => hful a h⟩
    · intro e a ha
      rw [← cy_st_t, e, hkt]
      exact ha
  unfold wpY_hasRow
  dsimp only
  rw [nI_clamp (show o < 2 ^ 31 by omega)]
  refine ⟨vp_in_nI (by omega) (by omega), nm_e ⟨10369, cy_14 (fun R hR => ⟨10369, cy_47 hw hc ho hwi (fun R' hI => ⟨82, ?_⟩) 10369 0 _ (by omega) (by omega) ⟨fun j hj hRj => ⟨[], trivial, ?_⟩, by rw [pk_us]; decide, fun L x _ h => by omega⟩⟩) 10369 0 R0 (by omega) (by omega) (fun j hj => by omega)⟩⟩
  · rw [hkb]
    refine cy_222 hk (fun hz => h0 R' ?_) (fun l hl hz => h1 R' ?_) 82 0 (by omega) (by omega) (fun l' hl' => by omega)
    · rintro ⟨L, hok, hful⟩
      have h7 := cy_ok7 hw hc ho hok
      obtain ⟨g1, g2, g3, g4⟩ := cy_ix_f (C := C) (W := W) h7
      have e := (hst L hok).mp hful
      rw [e] at g2
      have h5 := hz (cy_ix C W L % 81) (by omega)
      have e6 : 81 * k + cy_ix C W L % 81 = cy_ix C W L := by omega
      rw [e6] at h5
      exact cy_Inv_all hw hc ho hI hok (by omega) h5
    · obtain ⟨L, hok, hix⟩ := hI.1 (81 * k + l) (by omega) hz
      have h7 := cy_ok7 hw hc ho hok
      obtain ⟨g1, g2, g3, g4⟩ := cy_ix_f (C := C) (W := W) h7
      exact ⟨L, hok, (hst L hok).mpr (by omega)⟩
  · by_cases e : j = 80
    · rw [e]; rfl
    · rw [pk_un e] at hRj
      exact absurd (hR j hj) hRj
end
end
section
/-! Y: orders by number, pure -/
def cy_fa : Nat → Nat
  | 0 => 1
  | n + 1 => cy_fa n * (n + 1)
/-- the order with the number, the latest first, behind what stands already -/
def cy_ar : Nat → List Nat → Nat → List Nat → List Nat
  | 0, _, _, acc => acc
  | n + 1, l, rest, acc => cy_ar n (l.erase (l.getD (rest % (n + 1)) 8)) (rest / (n + 1)) (l.getD (rest % (n + 1)) 8 :: acc)
theorem cy_getD_mem {l : List Nat} {k : Nat} (h : k < l.length) : l.getD k 8 ∈ l := by
  rw [List.getD_eq_getElem?_getD, List.getElem?_eq_getElem h]
  exact List.getElem_mem h
theorem cy_ar_mem : ∀ (n : Nat) (l : List Nat) (rest : Nat) (acc : List Nat), l.length = n → l.Nodup → acc.Nodup → (∀ a, a ∈ l → a ∉ acc) → (cy_ar n l rest acc).Nodup ∧ ∀ a, a ∈ cy_ar n l rest acc ↔ a ∈ l ∨ a ∈ acc := by
  intro n
  induction n with
  | zero =>
    intro l rest acc hl _ ha _
    have e : l = [] := List.length_eq_zero_iff.mp hl
    subst e
    exact ⟨ha, fun a => ⟨Or.inr, fun h => h.elim (fun h => by cases h) id⟩⟩
  | succ n ih =>
    intro l rest acc hl hn ha hd
    have hm : l.getD (rest % (n + 1)) 8 ∈ l := cy_getD_mem (by rw [hl]; exact Nat.mod_lt _ (by omega))
    rw [cy_ar]
    generalize l.getD (rest % (n + 1)) 8 = x at *
    obtain ⟨h1, h2⟩ := ih (l.erase x) (rest / (n + 1)) (x :: acc) (by rw [List.length_erase_of_mem hm, hl]; rfl) (hn.erase x) (List.nodup_cons.mpr ⟨hd x hm, ha⟩) (fun a h => by
      rw [hn.mem_erase_iff] at h
      intro hc
      rcases List.mem_cons.mp hc with e | hc
      · exact h.1 e
      · exact hd a h.2 hc)
    refine ⟨h1, fun a => ?_⟩
    rw [h2, hn.mem_erase_iff, List.mem_cons]
    constructor
    · rintro (⟨_, h⟩ | h | h)
      · exact Or.inl h
      · rw [h]; exact Or.inl hm
      · exact Or.inr h
    · rintro (h | h)
      · by_cases e : a = x
        · exact Or.inr (Or.inl e)
        · exact Or.inl ⟨e, h⟩
      · exact Or.inr (Or.inr h)
theorem cy_ar_surj : ∀ (n : Nat) (l Q acc : List Nat), l.length = n → l.Nodup → Q.Nodup → (∀ a, a ∈ Q ↔ a ∈ l) → ∃ rest, rest < cy_fa n ∧ cy_ar n l rest acc = Q.reverse ++ acc := by
  intro n
  induction n with
  | zero =>
    intro l Q acc hl _ _ hm
    have e : l = [] := List.length_eq_zero_iff.mp hl
    subst e
    have eq : Q = [] := by
      cases Q with
      | nil => rfl
      | cons q Q => exact absurd ((hm q).mp List.mem_cons_self) (by simp)
    subst eq
    exact ⟨0, by decide, rfl⟩
  | succ n ih =>
    intro l Q acc hl hn hq hm
    cases Q with
    | nil =>
      have e : l = [] := by
        cases l with
        | nil => rfl
        | cons x l => exact absurd ((hm x).mpr List.mem_cons_self) (by simp)
      rw [e] at hl
      simp at hl
    | cons q Q =>
      obtain ⟨hq1, hq2⟩ := List.nodup_cons.mp hq
      have hql : q ∈ l := (hm q).mp List.mem_cons_self
      obtain ⟨rest, hr, he⟩ := ih (l.erase q) Q (q :: acc) (by rw [List.length_erase_of_mem hql, hl]; rfl) (hn.erase q) hq2 (fun a => by
        rw [hn.mem_erase_iff, ← hm, List.mem_cons]
        constructor
        · intro h
          exact ⟨fun e => hq1 (by rw [← e]; exact h), Or.inr h⟩
        · rintro ⟨h1, h2 | h2⟩
          · exact absurd h2 h1
          · exact h2)
      have hk : l.idxOf q < n + 1 := by rw [← hl]; exact List.idxOf_lt_length_of_mem hql
      have e1 : (l.idxOf q + (n + 1) * rest) % (n + 1) = l.idxOf q := by
        rw [Nat.add_mul_mod_self_left, Nat.mod_eq_of_lt hk]
      have e2 : (l.idxOf q + (n + 1) * rest) / (n + 1) = rest := by
        rw [Nat.add_mul_div_left _ _ (by omega), Nat.div_eq_of_lt hk, Nat.zero_add]
      have e3 : l.getD (l.idxOf q) 8 = q := by
        rw [List.getD_eq_getElem?_getD, List.getElem?_eq_getElem (by omega), Option.getD_some, List.getElem_idxOf]
      refine ⟨l.idxOf q + (n + 1) * rest, ?_, ?_⟩
      · rw [cy_fa, Nat.mul_comm (cy_fa n)]
        have h1 : (n + 1) * (rest + 1) ≤ (n + 1) * cy_fa n := Nat.mul_le_mul_left _ hr
        rw [Nat.mul_add] at h1
        omega
      · rw [cy_ar, e1, e2, e3, he, List.reverse_cons, List.append_assoc]
        rfl
theorem cy_fa_lt : ∀ n, n < 9 → cy_fa n ≤ 40320 := by decide
/-- the first n of q, the latest first -/
def cy_tl (q : Nat → Nat) : Nat → List Nat
  | 0 => []
  | n + 1 => q n :: cy_tl q n
theorem cy_tl_mem {q : Nat → Nat} : ∀ n a, a ∈ cy_tl q n ↔ ∃ j, j < n ∧ a = q j := by
  intro n
  induction n with
  | zero =>
    intro a
    constructor
    · intro h; cases h
    · rintro ⟨j, hj, _⟩; omega
  | succ n ih =>
    intro a
    rw [cy_tl, List.mem_cons, ih]
    constructor
    · rintro (h | ⟨j, hj, h⟩)
      · exact ⟨n, by omega, h⟩
      · exact ⟨j, by omega, h⟩
    · rintro ⟨j, hj, h⟩
      by_cases e : j = n
      · subst e; exact Or.inl h
      · exact Or.inr ⟨j, by omega, h⟩
theorem cy_tl_congr {q q' : Nat → Nat} : ∀ n, (∀ j, j < n → q j = q' j) → cy_tl q n = cy_tl q' n := by
  intro n
  induction n with
  | zero => intro _; rfl
  | succ n ih =>
    intro h
    rw [cy_tl, cy_tl, h n (by omega), ih (fun j hj => h j (by omega))]
/-- a row: no two alike, none behind one that it is before -/
theorem cy_tl_rs {E : Nat → Int32} {q : Nat → Nat} : ∀ n, (∀ i, i < n → ∀ j, j < i → q i ≠ q j ∧ ¬ cc_h E (q i) (q j)) → cc_rs (cc_h E) (cy_tl q n) := by
  intro n
  induction n with
  | zero => intro _; trivial
  | succ n ih =>
    intro h
    refine ⟨ih (fun i hi => h i (by omega)), fun a ha => ?_⟩
    obtain ⟨j, hj, e⟩ := (cy_tl_mem n a).mp ha
    rw [e]
    exact (h n (by omega) j hj).2
theorem cy_tl_nd {q : Nat → Nat} : ∀ n, (cy_tl q n).Nodup → ∀ i, i < n → ∀ j, j < i → q i ≠ q j := by
  intro n
  induction n with
  | zero => intro _ i hi; omega
  | succ n ih =>
    intro h i hi j hj
    obtain ⟨h1, h2⟩ := List.nodup_cons.mp h
    by_cases e : i = n
    · subst e
      intro e
      exact h1 ((cy_tl_mem i _).mpr ⟨j, hj, e⟩)
    · exact ih h2 i (by omega) j hj
theorem cy_tl_rs' {E : Nat → Int32} {q : Nat → Nat} : ∀ n, cc_rs (cc_h E) (cy_tl q n) → ∀ i, i < n → ∀ j, j < i → ¬ cc_h E (q i) (q j) := by
  intro n
  induction n with
  | zero => intro _ i hi; omega
  | succ n ih =>
    intro h i hi j hj
    by_cases e : i = n
    · subst e
      exact h.2 _ ((cy_tl_mem i _).mpr ⟨j, hj, rfl⟩)
    · exact ih h.1 i (by omega) j hj
/-- the numbers below c at which p holds -/
theorem cy_flt_ext {p : Nat → Bool} {c : Nat} (h : ∀ i, c ≤ i → p i = false) : ∀ d, (List.range (c + d)).filter p = (List.range c).filter p := by
  intro d
  induction d with
  | zero => rfl
  | succ d ih =>
    rw [← Nat.add_assoc, List.range_succ, List.filter_append, ih]
    simp [h (c + d) (by omega)]
end
section
/-! Y: convergence -/
def cy_lb (x : Int32) (w : Nat) : List Nat := (List.range' w (8 - w)).filter (fun a => bt x a)
theorem cy_lb_s {x : Int32} {w : Nat} (h : w < 8) : cy_lb x w = if bt x w = true then w :: cy_lb x (w + 1) else cy_lb x (w + 1) := by
  unfold cy_lb
  obtain ⟨d, hd⟩ : ∃ d, 8 - w = d + 1 := ⟨7 - w, by omega⟩
  rw [hd, show 8 - (w + 1) = d by omega, List.range'_succ, List.filter_cons]
theorem cy_lb_nd (x : Int32) (w : Nat) : (cy_lb x w).Nodup := (List.nodup_range' (step := 1)).sublist List.filter_sublist
theorem cy_lb_mem {x : Int32} {a : Nat} : a ∈ cy_lb x 0 ↔ a < 8 ∧ bt x a = true := by
  unfold cy_lb
  rw [List.mem_filter, List.mem_range'_1]
  constructor
  · rintro ⟨h1, h2⟩; exact ⟨by omega, h2⟩
  · rintro ⟨h1, h2⟩; exact ⟨by omega, h2⟩
theorem cy_lb_er {x : Int32} {a : Nat} (ha : a < 8) : cy_lb (x &&& (((1 : Int32) <<< (nI a &&& 31)) ^^^ (-1))) 0 = (cy_lb x 0).erase a := by
  rw [(cy_lb_nd x 0).erase_eq_filter a]
  unfold cy_lb
  rw [List.filter_filter]
  apply List.filter_congr
  intro b hb
  have hb8 : b < 8 := by
    have := List.mem_range'_1.mp hb
    omega
  rw [b_and, b_xor, b_m1 b (by omega), cc_bit (by omega)]
  by_cases e : b = a
  · subst e; simp
  · have e2 : (b != a) = true := by simp [e]
    rw [e2, decide_eq_false e]; simp
section
variable {c : Nat} {U C W S E R : Nat → Int32}
theorem cy_arr_74 {post : SY → Prop} {J47 : Int32 → Int32 → Int32 → (Nat → Int32) → (Nat → Int32) → (Nat → Int32) → (Nat → Int32) → (Nat → Int32) → (Nat → Int32) → (Nat → Int32) → Prop} {x1 x3 x4 x5 : Int32} {O : Nat → Int32} {res : Nat} (K : wY_arrange_114 post J47 x1 x3 x4 x5 (nI res) (nI c) U C W S E R O) :
    ∀ n w k, w ≤ 8 → 8 - w < n → k < 2 ^ 30 → (cy_lb x3 w).getD k 8 = res → wY_arrange_74 post J47 x1 x3 x4 x5 (nI c) U C W S E R O n (nI k) (nI w) := by
  intro n
  induction n with
  | zero => intro w k _ h; omega
  | succ n ih =>
    intro w k hw hn hk hres
    rw [wY_arrange_74]
    dsimp only
    refine pk_le 8 w (fun h => ?_) (fun h => cc_bs0 (by omega) (fun z => cc_bs1 (by omega) (fun z' => Bool.noConfusion (z.symm.trans z')) (fun _ => nm_r (nI_1 w) (ih (w + 1) k (by omega) (by omega) hk ?_))) (fun z => pk_le k 0 (fun h0 => ?_) (fun h0 => cc_bs1 (by omega) (fun _ => nm_r (e' := nI (k - 1)) ?_ (nm_r (nI_1 w) (ih (w + 1) (k - 1) (by omega) (by omega) (by omega) ?_))) (fun z' => Bool.noConfusion (z'.symm.trans z)))))
    · have e : w = 8 := by omega
      subst e
      have e2 : res = 8 := by rw [← hres]; rfl
      rw [e2] at K
      exact K
    · rw [cy_lb_s h, if_neg (by rw [z]; decide)] at hres
      exact hres
    · have e : k = 0 := by omega
      subst e
      rw [cy_lb_s h, if_pos z] at hres
      have e2 : res = w := by rw [← hres]; rfl
      rw [e2] at K
      exact K
    · obtain ⟨k', rfl⟩ : ∃ k', k = k' + 1 := ⟨k - 1, by omega⟩
      rw [pk_m1, Nat.add_sub_cancel]
    · obtain ⟨k', rfl⟩ : ∃ k', k = k' + 1 := ⟨k - 1, by omega⟩
      rw [cy_lb_s h, if_pos z] at hres
      rw [Nat.add_sub_cancel]
      exact hres
theorem cy_arr_47 {post : SY → Prop} {N : Nat} (hN : N ≤ 8) {Q : List Nat} (K : ∀ O q, cy_tl q N = Q → (∀ j, j < N → O j = nI (q j)) → post (nI c, U, C, W, S, E, R, O)) :
    ∀ n i left rest O q, i ≤ N → N - i < n → rest < 2 ^ 30 → (cy_lb left 0).length = N - i → cy_ar (N - i) (cy_lb left 0) rest (cy_tl q i) = Q → (∀ j, j < i → O j = nI (q j)) → wY_arrange_47 post (nI N) (nI c) n left (nI rest) (nI i) U C W S E R O := by
  intro n
  induction n with
  | zero => intro i left rest O q _ h; omega
  | succ n ih =>
    intro i left rest O q hi hn hr hlen har hO
    rw [wY_arrange_47]
    dsimp only
    refine pk_le N i (fun h => ?_) (fun h => ?_)
    · have e : i = N := by omega
      subst e
      rw [Nat.sub_self] at har
      exact K O q har hO
    · obtain ⟨m, hm⟩ : ∃ m, N - i = m + 1 := ⟨N - i - 1, by omega⟩
      have e1 : nI N - nI i = nI (m + 1) := by rw [pk_sub (by omega), hm]
      have e2 : nI rest - nI rest / nI (m + 1) * nI (m + 1) = nI (rest % (m + 1)) := pk_rem (by omega) (by omega) (by omega)
      have e3 : nI rest / nI (m + 1) = nI (rest / (m + 1)) := pk_div (by omega) (by omega) (by omega)
      rw [e1, e2, e3]
      have hmod : rest % (m + 1) < m + 1 := Nat.mod_lt _ (by omega)
      have hdiv : rest / (m + 1) ≤ rest := Nat.div_le_self _ _
      have hne : ¬ nI (m + 1) = 0 := nI_ne0 (by omega) (by omega)
      have hmem : (cy_lb left 0).getD (rest % (m + 1)) 8 ∈ cy_lb left 0 := cy_getD_mem (by omega)
      rw [hm, cy_ar] at har
      refine ⟨hne, nm_e ⟨hne, nm_e ⟨9, cy_arr_74 (res := (cy_lb left 0).getD (rest % (m + 1)) 8) ?_ 9 0 (rest % (m + 1)) (by omega) (by omega) (by omega) rfl⟩⟩⟩
      generalize (cy_lb left 0).getD (rest % (m + 1)) 8 = x at *
      have hx8 : x < 8 := (cy_lb_mem.mp hmem).1
      unfold wY_arrange_114
      rw [nI_clamp (show i < 2 ^ 31 by omega)]
      refine ⟨vp_in_nI (by omega) (by omega), nm_e (nm_e (nm_r (nI_1 i) (ih (i + 1) _ (rest / (m + 1)) _ (fun j => if j = i then x else q j) (by omega) (by omega) (by omega) ?_ ?_ (fun j hj => ?_))))⟩
      · rw [cy_lb_er hx8, List.length_erase_of_mem hmem]
        omega
      · rw [cy_lb_er hx8, show N - (i + 1) = m by omega, ← har]
        congr 1
        rw [cy_tl, if_pos rfl]
        congr 1
        exact cy_tl_congr i (fun j hj => if_neg (by omega))
      · by_cases e : j = i
        · rw [e, pk_us, if_pos rfl]
        · rw [pk_un e, if_neg e]; exact hO j (by omega)
theorem cy_arr_8 {post : SY → Prop} {x1 x4 : Int32} {O : Nat → Int32} (hc : c ≤ 8) (K : ∀ left, (∀ a, bt left a = true ↔ a < c ∧ ¬ W a = 0) → ∃ n47 : Nat, wY_arrange_47 post x1 (nI c) n47 left x4 0 U C W S E R O) :
    ∀ n i left, i ≤ c → c - i < n → (∀ a, bt left a = true ↔ a < i ∧ ¬ W a = 0) → wY_arrange_8 post x1 x4 (nI c) U C W S E R O n left (nI i) := by
  intro n
  induction n with
  | zero => intro i left _ h; omega
  | succ n ih =>
    intro i left hi hn hl
    rw [wY_arrange_8]
    dsimp only
    rw [nI_clamp (show i < 2 ^ 31 by omega)]
    refine pk_le c i (fun h => K left (fun a => ?_)) (fun h => ⟨vp_in_nI (by omega) (by omega), br_c (fun z => nm_r (cc_or0 left) (nm_r (nI_1 i) (ih (i + 1) left (by omega) (by omega) (fun a => ?_)))) (fun z => nm_e (nm_r (nI_1 i) (ih (i + 1) _ (by omega) (by omega) (fun a => ?_))))⟩)
    · have e : i = c := by omega
      rw [← e]; exact hl a
    · rw [hl a]
      constructor
      · rintro ⟨h1, h2⟩; exact ⟨by omega, h2⟩
      · rintro ⟨h1, h2⟩
        refine ⟨?_, h2⟩
        by_cases e : a = i
        · rw [e] at h2; exact absurd z h2
        · omega
    · rw [b_or, cc_bit (by omega), Bool.or_eq_true, decide_eq_true_eq, hl a]
      constructor
      · rintro (⟨h1, h2⟩ | h1)
        · exact ⟨by omega, h2⟩
        · rw [h1]; exact ⟨by omega, z⟩
      · rintro ⟨h1, h2⟩
        by_cases e : a = i
        · exact Or.inr e
        · exact Or.inl ⟨by omega, h2⟩
/-- the writes held, from below -/
def cy_wl (c : Nat) (W : Nat → Int32) : List Nat := (List.range 8).filter (fun a => decide (a < c ∧ ¬ W a = 0))
theorem cy_arrange {post : SY → Prop} {O : Nat → Int32} (hc : c ≤ 8) {N number : Nat} (hN : (cy_wl c W).length = N) (hN8 : N ≤ 8) (hnum : number < 2 ^ 30)
    (K : ∀ O q, cy_tl q N = cy_ar N (cy_wl c W) number [] → (∀ j, j < N → O j = nI (q j)) → post (nI c, U, C, W, S, E, R, O)) : wpY_arrange post (nI c, U, C, W, S, E, R, O) (nI N) (nI number) := by
  refine ⟨c + 1, cy_arr_8 hc (fun left hl => ?_) (c + 1) 0 0 (by omega) (by omega) (fun a => ?_)⟩
  · have e : cy_lb left 0 = cy_wl c W := by
      unfold cy_lb cy_wl
      rw [List.range_eq_range']
      apply List.filter_congr
      intro a _
      rw [Bool.eq_iff_iff, decide_eq_true_eq, hl a]
    exact ⟨N + 1, cy_arr_47 hN8 K (N + 1) 0 left number O (fun _ => 0) (by omega) (by omega) hnum (by rw [e, hN]; rfl) (by rw [e]; rfl) (fun j hj => by omega)⟩
  · rw [b_0]
    constructor
    · intro h; cases h
    · rintro ⟨h, _⟩; omega
theorem cy_isRow_9 {post J2 : Int32 → Prop} {O : Nat → Int32} {q : Nat → Nat} {N i : Nat} (hN : N ≤ 8) (hi : i < N) (hO : ∀ j, j < N → O j = nI (q j)) (hq : ∀ j, j < N → q j < 8)
    (h0 : (∃ j, j < i ∧ ¬ (q i ≠ q j ∧ ¬ cc_h E (q i) (q j))) → post 0) (K : (∀ j, j < i → q i ≠ q j ∧ ¬ cc_h E (q i) (q j)) → J2 (nI (i + 1))) :
    ∀ n j, j ≤ i → i - j < n → (∀ j', j' < j → q i ≠ q j' ∧ ¬ cc_h E (q i) (q j')) → wY_isRow_9 post J2 (nI N) (nI i) (nI c) U C W S E R O n (nI j) := by
  intro n
  induction n with
  | zero => intro j _ h; omega
  | succ n ih =>
    intro j hj hn hall
    rw [wY_isRow_9]
    dsimp only
    rw [nI_clamp (show i < 2 ^ 31 by omega), nI_clamp (show j < 2 ^ 31 by omega), hO i hi]
    refine pk_le i j (fun h => nm_r (nI_1 i) (K (fun j' hj' => hall j' (by omega)))) (fun h => ?_)
    have hqi := hq i hi
    have hqj := hq j (by omega)
    rw [hO j (by omega), nI_clamp (show q j < 2 ^ 31 by omega)]
    refine ⟨vp_in_nI (by omega) (by omega), vp_in_nI (by omega) (by omega), pk_eq (q i) (q j) (fun e => h0 ⟨j, h, fun hh => hh.1 e⟩) (fun e => ⟨vp_in_nI (by omega) (by omega), vp_in_nI (by omega) (by omega), vp_in_nI (by omega) (by omega), cc_bs1 (by omega) (fun z => h0 ⟨j, h, fun hh => hh.2 z⟩) (fun z => nm_r (nI_1 j) (ih (j + 1) (by omega) (by omega) (fun j' hj' => ?_)))⟩)⟩
    by_cases e2 : j' = j
    · subst e2
      exact ⟨e, fun hh => Bool.noConfusion (z.symm.trans hh)⟩
    · exact hall j' (by omega)
theorem cy_isRow_2 {post : Int32 → Prop} {O : Nat → Int32} {q : Nat → Nat} {N : Nat} (hN : N ≤ 8) (hO : ∀ j, j < N → O j = nI (q j)) (hq : ∀ j, j < N → q j < 8)
    (h0 : ¬ (∀ i, i < N → ∀ j, j < i → q i ≠ q j ∧ ¬ cc_h E (q i) (q j)) → post 0) (h1 : (∀ i, i < N → ∀ j, j < i → q i ≠ q j ∧ ¬ cc_h E (q i) (q j)) → post 1) :
    ∀ n i, i ≤ N → N - i < n → (∀ i', i' < i → ∀ j, j < i' → q i' ≠ q j ∧ ¬ cc_h E (q i') (q j)) → wY_isRow_2 post (nI N) (nI c) U C W S E R O n (nI i) := by
  intro n
  induction n with
  | zero => intro i _ h; omega
  | succ n ih =>
    intro i hi hn hall
    rw [wY_isRow_2]
    dsimp only
    refine pk_le N i (fun h => h1 (fun i' hi' => hall i' (by omega))) (fun h => ⟨i + 1, cy_isRow_9 hN h hO hq (fun hex => h0 (fun hh => ?_)) (fun hrow => ih (i + 1) (by omega) (by omega) (fun i' hi' => ?_)) (i + 1) 0 (by omega) (by omega) (fun j' hj' => by omega)⟩)
    · obtain ⟨j, hj, hn2⟩ := hex
      exact hn2 (hh i h j hj)
    · by_cases e : i' = i
      · rw [e]; exact hrow
      · exact hall i' (by omega)
def cy_enc : Option Nat → Int32
  | none => -1
  | some a => nI a
theorem cy_fits_13 {post J2 : Int32 → Prop} {x2 : Int32} {O : Nat → Int32} {q : Nat → Nat} {N r : Nat} (hN : N ≤ 8) (hr : r < 8) (hO : ∀ j, j < N → O j = nI (q j)) (hq : ∀ j, j < N → q j < 8)
    (h0 : W r = 0 → ¬ cy_enc ((cy_tl q N).find? (cc_n C E r)) = S r → post 0) (K : (W r = 0 → cy_enc ((cy_tl q N).find? (cc_n C E r)) = S r) → J2 (nI (r + 1))) :
    ∀ n i, i ≤ N → N - i < n → wY_fits_13 post J2 (nI N) x2 (nI r) (nI c) U C W S E R O n (cy_enc ((cy_tl q i).find? (cc_n C E r))) (nI i) := by
  intro n
  induction n with
  | zero => intro i _ h; omega
  | succ n ih =>
    intro i hi hn
    rw [wY_fits_13]
    dsimp only
    rw [nI_clamp (show r < 2 ^ 31 by omega), nI_clamp (show i < 2 ^ 31 by omega)]
    refine pk_le N i (fun h => ?_) (fun h => ?_)
    · have e : i = N := by omega
      subst e
      exact ⟨vp_in_nI (by omega) (by omega), br_c (fun z => ⟨vp_in_nI (by omega) (by omega), br_c (fun ze => nm_r (nI_1 r) (K (fun _ => ze))) (fun ze => h0 z ze)⟩) (fun z => nm_r (nI_1 r) (K (fun z' => absurd z' z)))⟩
    · have hqi := hq i h
      have ih' := ih (i + 1) (by omega) (by omega)
      rw [cy_tl] at ih'
      refine ⟨vp_in_nI (by omega) (by omega), nm_r (hO i h) ?_⟩
      rw [nI_clamp (show q i < 2 ^ 31 by omega)]
      refine ⟨vp_in_nI (by omega) (by omega), vp_in_nI (by omega) (by omega), br_c (fun zc => ⟨vp_in_nI (by omega) (by omega), cc_bs1 (by omega) (fun zb => nm_r (nI_1 i) ?_) (fun zb => nm_r (nI_1 i) ?_)⟩) (fun zc => nm_r (nI_1 i) ?_)⟩
      · rw [List.find?_cons_of_pos (cc_n_t.mpr ⟨zc, zb⟩)] at ih'
        exact ih'
      · rw [List.find?_cons_of_neg (fun hh => Bool.noConfusion (zb.symm.trans (cc_n_t.mp hh).2))] at ih'
        exact ih'
      · rw [List.find?_cons_of_neg (fun hh => zc (cc_n_t.mp hh).1)] at ih'
        exact ih'
theorem cy_fits_2 {post : Int32 → Prop} {O : Nat → Int32} {q : Nat → Nat} {N cnt : Nat} (hN : N ≤ 8) (hcnt : cnt ≤ 8) (hO : ∀ j, j < N → O j = nI (q j)) (hq : ∀ j, j < N → q j < 8)
    (h0 : ¬ (∀ r, r < cnt → W r = 0 → cy_enc ((cy_tl q N).find? (cc_n C E r)) = S r) → post 0) (h1 : (∀ r, r < cnt → W r = 0 → cy_enc ((cy_tl q N).find? (cc_n C E r)) = S r) → post 1) :
    ∀ n r, r ≤ cnt → cnt - r < n → (∀ r', r' < r → W r' = 0 → cy_enc ((cy_tl q N).find? (cc_n C E r')) = S r') → wY_fits_2 post (nI N) (nI cnt) (nI c) U C W S E R O n (nI r) := by
  intro n
  induction n with
  | zero => intro r _ h; omega
  | succ n ih =>
    intro r hr hn hall
    rw [wY_fits_2]
    dsimp only
    refine pk_le cnt r (fun h => h1 (fun r' hr' => hall r' (by omega))) (fun h => ⟨N + 1, cy_fits_13 hN (by omega) hO hq (fun z hne => h0 (fun hh => hne (hh r h z))) (fun hrow => ih (r + 1) (by omega) (by omega) (fun r' hr' => ?_)) (N + 1) 0 (by omega) (by omega)⟩)
    by_cases e : r' = r
    · rw [e]; exact hrow
    · exact hall r' (by omega)
theorem cy_enc_iff {cnt : Nat} (hw : cc_WF cnt U C W S E) (hcnt : cnt ≤ 8) {r : Nat} (hr : r < cnt) (h0 : W r = 0) {f : Option Nat} (hf : ∀ a, f = some a → a < 8) : cy_enc f = S r ↔ f = cc_src S r := by
  rcases cc_wsrc hw hcnt hr h0 with ⟨hS, hs⟩ | ⟨s, hsr, hS, hs, _, _, _⟩
  · rw [hs, hS]
    cases f with
    | none => exact ⟨fun _ => rfl, fun _ => rfl⟩
    | some a =>
      constructor
      · intro h; exact absurd h (cc_bneg a (by have := hf a rfl; omega))
      · intro h; cases h
  · rw [hs, hS]
    cases f with
    | none =>
      constructor
      · intro h; exact absurd h.symm (cc_bneg s (by omega))
      · intro h; cases h
    | some a =>
      have := hf a rfl
      show nI a = nI s ↔ _
      rw [nI_eq (by omega) (by omega), Option.some.injEq]
theorem cy_con_39 {post : Int32 → SY → Prop} {cnt N : Nat} (hw : cc_WF cnt U C W S E) (hcc : c ≤ cnt) (hcnt : cnt ≤ 8) (hN : (cy_wl c W).length = N) (hN8 : N ≤ 8)
    (h0 : ∀ O, (∀ m, m < cy_fa N → ¬ cc_Good cnt C W S E (cy_ar N (cy_wl c W) m [])) → post 0 (nI c, U, C, W, S, E, R, O)) (h1 : ∀ O m, m < cy_fa N → cc_Good cnt C W S E (cy_ar N (cy_wl c W) m []) → post 1 (nI c, U, C, W, S, E, R, O)) :
    ∀ n m O, m ≤ cy_fa N → cy_fa N - m < n → (∀ m', m' < m → ¬ cc_Good cnt C W S E (cy_ar N (cy_wl c W) m' [])) → wY_converges_39 post (nI cnt) (nI N) (nI (cy_fa N)) n (nI m) (nI c) U C W S E R O := by
  have hfa := cy_fa_lt N (by omega)
  have hnd : (cy_wl c W).Nodup := List.nodup_range.sublist List.filter_sublist
  intro n
  induction n with
  | zero => intro m O _ h; omega
  | succ n ih =>
    intro m O hm hn hall
    rw [wY_converges_39]
    dsimp only
    refine pk_le (cy_fa N) m (fun h => h0 O (fun m' hm' => hall m' (by omega))) (fun h => cy_arrange (by omega) hN hN8 (by omega) (fun O' q htl hO => ?_))
    dsimp only
    obtain ⟨hd1, hd2⟩ := cy_ar_mem N (cy_wl c W) m [] hN hnd List.nodup_nil (fun a _ h => by cases h)
    rw [← htl] at hd1 hd2
    have hq : ∀ j, j < N → q j < 8 := by
      intro j hj
      have h5 := (hd2 (q j)).mp ((cy_tl_mem N _).mpr ⟨j, hj, rfl⟩)
      rcases h5 with h5 | h5
      · exact List.mem_range.mp (List.mem_filter.mp h5).1
      · cases h5
    have hfq : ∀ r a, (cy_tl q N).find? (cc_n C E r) = some a → a < 8 := by
      intro r a ha
      obtain ⟨j, hj, e⟩ := (cy_tl_mem N a).mp (cc_f2 _ ha).1
      rw [e]; exact hq j hj
    have next : ¬ cc_Good cnt C W S E (cy_tl q N) → wY_converges_39 post (nI cnt) (nI N) (nI (cy_fa N)) n (nI (m + 1)) (nI c) U C W S E R O' := by
      intro hb
      refine ih (m + 1) O' (by omega) (by omega) (fun m' hm' => ?_)
      by_cases e : m' = m
      · rw [e, ← htl]; exact hb
      · exact hall m' (by omega)
    refine ⟨N + 1, cy_isRow_2 hN8 hO hq (fun hbad => br_t rfl (nm_r (nI_1 m) (next (fun hg => hbad (fun i hi j hj => ⟨cy_tl_nd N hd1 i hi j hj, cy_tl_rs' N hg.1 i hi j hj⟩))))) (fun hrow => br_f (by decide) ⟨cnt + 1, cy_fits_2 hN8 hcnt hO hq (fun hbad => br_t rfl (nm_r (nI_1 m) (next (fun hg => hbad (fun r hr hr0 => (cy_enc_iff hw hcnt hr hr0 (hfq r)).mpr (hg.2 r hr hr0)))))) (fun hfit => br_f (by decide) (h1 O' m h ?_)) (cnt + 1) 0 (by omega) (by omega) (fun r' hr' => by omega)⟩) (N + 1) 0 (by omega) (by omega) (fun i' hi' => by omega)⟩
    rw [← htl]
    exact ⟨cy_tl_rs N hrow, fun r hr hr0 => (cy_enc_iff hw hcnt hr hr0 (hfq r)).mp (hfit r hr hr0)⟩
theorem cy_con_7 {post : Int32 → SY → Prop} {cnt : Nat} {O : Nat → Int32} (hcnt : cnt ≤ 8) (K : ∀ N, N ≤ 8 → ((List.range cnt).filter (fun a => decide (¬ W a = 0))).length = N → ∃ n39 : Nat, wY_converges_39 post (nI cnt) (nI N) (nI (cy_fa N)) n39 0 (nI c) U C W S E R O) :
    ∀ n i N, i ≤ cnt → cnt - i < n → N ≤ i → ((List.range i).filter (fun a => decide (¬ W a = 0))).length = N → wY_converges_7 post (nI cnt) (nI c) U C W S E R O n (nI N) (nI (cy_fa N)) (nI i) := by
  intro n
  induction n with
  | zero => intro i N _ h; omega
  | succ n ih =>
    intro i N hi hn hN hlen
    rw [wY_converges_7]
    dsimp only
    rw [nI_clamp (show i < 2 ^ 31 by omega)]
    refine pk_le cnt i (fun h => ?_) (fun h => ⟨vp_in_nI (by omega) (by omega), br_c (fun z => nm_r (nI_1 i) (ih (i + 1) N (by omega) (by omega) (by omega) ?_)) (fun z => nm_r (nI_1 N) (nm_r (e' := nI (cy_fa (N + 1))) ?_ (nm_r (nI_1 i) (ih (i + 1) (N + 1) (by omega) (by omega) (by omega) ?_))))⟩)
    · have e : i = cnt := by omega
      subst e
      exact K N (by omega) hlen
    · rw [List.range_succ, List.filter_append, List.length_append, hlen]
      simp [z]
    · rw [pk_mul, cy_fa]
    · rw [List.range_succ, List.filter_append, List.length_append, hlen]
      simp [z]
theorem cy_converges {post : Int32 → SY → Prop} {cnt : Nat} {O0 : Nat → Int32} (hw : cc_WF cnt U C W S E) (hcc : c ≤ cnt) (hcnt : cnt ≤ 8) (hW : ∀ a, c ≤ a → a < cnt → W a = 0)
    (h0 : ∀ O, ¬ cc_Cv cnt C W S E → post 0 (nI c, U, C, W, S, E, R, O)) (h1 : ∀ O, cc_Cv cnt C W S E → post 1 (nI c, U, C, W, S, E, R, O)) : wpY_converges post (nI c, U, C, W, S, E, R, O0) (nI cnt) := by
  have hlw : cy_wl c W = (List.range cnt).filter (fun a => decide (¬ W a = 0)) := by
    unfold cy_wl
    have e : (List.range 8).filter (fun a => decide (a < c ∧ ¬ W a = 0)) = (List.range cnt).filter (fun a => decide (a < c ∧ ¬ W a = 0)) := by
      have h2 := cy_flt_ext (p := fun a => decide (a < c ∧ ¬ W a = 0)) (c := cnt) (fun i hi => decide_eq_false (fun hh => by omega)) (8 - cnt)
      rw [show cnt + (8 - cnt) = 8 by omega] at h2
      exact h2
    rw [e]
    apply List.filter_congr
    intro a ha
    have ha' := List.mem_range.mp ha
    rw [Bool.eq_iff_iff, decide_eq_true_eq, decide_eq_true_eq]
    constructor
    · intro h; exact h.2
    · intro h
      refine ⟨?_, h⟩
      rcases Nat.lt_or_ge a c with h3 | h3
      · exact h3
      · exact absurd (hW a h3 ha') h
  have hmem : ∀ a, a ∈ cy_wl c W ↔ a < cnt ∧ ¬ W a = 0 := by
    intro a
    rw [hlw, List.mem_filter, List.mem_range, decide_eq_true_eq]
  have hnd : (cy_wl c W).Nodup := List.nodup_range.sublist List.filter_sublist
  refine ⟨cnt + 1, cy_con_7 hcnt (fun N hN8 hlen => ⟨cy_fa N + 1, cy_con_39 hw hcc hcnt (by rw [hlw]; exact hlen) hN8 (fun O hno => h0 O ?_) (fun O m hm hg => h1 O ?_) (cy_fa N + 1) 0 O0 (by omega) (by omega) (fun m' hm' => by omega)⟩) (cnt + 1) 0 0 (by omega) (by omega) (by omega) rfl⟩
  · rintro ⟨L, hL1, hL2, hL3⟩
    obtain ⟨m, hm, e⟩ := cy_ar_surj N (cy_wl c W) L.reverse [] (by rw [hlw]; exact hlen) hnd (by
      rw [List.nodup_iff_pairwise_ne, List.pairwise_reverse]
      exact List.Pairwise.imp (fun h => h.symm) hL1) (fun a => by rw [List.mem_reverse, hL2, hmem])
    rw [List.reverse_reverse, List.append_nil] at e
    exact hno m hm (by rw [e]; exact hL3)
  · obtain ⟨hd1, hd2⟩ := cy_ar_mem N (cy_wl c W) m [] (by rw [hlw]; exact hlen) hnd List.nodup_nil (fun a _ h => by cases h)
    refine ⟨_, hd1, fun a => ?_, hg⟩
    rw [hd2, hmem]
    constructor
    · rintro (h | h)
      · exact h
      · cases h
    · exact Or.inl
end
end
section
/-! calls: places, held ones, weak and strong of the reference, sound, choices -/
def cc_bp (p0 p1 : Int32) : Prop := p0 < 0 ∨ 2 < p0 ∨ p1 < 0 ∨ 1 < p1
theorem cy_badPlace {post : Int32 → Prop} {p0 p1 : Int32} (h1 : cc_bp p0 p1 → post 1) (h0 : ¬ cc_bp p0 p1 → post 0) : wpY_badPlace post p0 p1 := by
  refine br_c (fun z1 => h1 (Or.inl z1)) (fun z1 => br_c (fun z2 => h1 (Or.inr (Or.inl z2))) (fun z2 => br_c (fun z3 => h1 (Or.inr (Or.inr (Or.inl z3)))) (fun z3 => br_c (fun z4 => h0 ?_) (fun z4 => h1 (Or.inr (Or.inr (Or.inr (Int32.not_le.mp z4))))))))
  rintro (h | h | h | h)
  · exact z1 h
  · exact z2 h
  · exact z3 h
  · exact Int32.not_lt.mpr z4 h
theorem cc_cell {p1 : Int32} (h1 : ¬ p1 < 0) (h2 : ¬ 1 < p1) : p1 = 0 ∨ p1 = 1 := by
  obtain ⟨j, hj, e⟩ := nI_of2 (x := p1) (M := 1) (n := 1) (by decide) h1 (Int32.not_lt.mp h2)
  rcases Nat.le_one_iff_eq_zero_or_eq_one.mp hj with h | h
  · subst h; exact Or.inl e
  · subst h; exact Or.inr e
section
variable {c : Nat} {U C W S E : Nat → Int32}
theorem cx_isHeld {post : Int32 → Prop} (hc : c ≤ 8) {M : Nat → Int32} {p : Int32} (h0 : ¬ (∃ j, j < c ∧ p = nI j) → post 0) (h1 : (∃ j, j < c ∧ p = nI j) → post 1) : wpX_isHeld post (nI c, U, C, W, S, E, M) p := by
  unfold wpX_isHeld
  dsimp only
  rcases pk_ix p (n := c) (by omega) with h | h | ⟨j, hj, rfl⟩
  · refine br_t h (h0 ?_)
    rintro ⟨j, hj, e⟩
    rw [e] at h; exact nI_pos (by omega) h
  · refine br_f (fun hn => nI_pos (n := c) (by omega) (Int32.lt_of_le_of_lt h hn)) (br_t h (h0 ?_))
    rintro ⟨j, hj, e⟩
    rw [e] at h; exact nI_ge hj (by omega) h
  · exact br_f (nI_pos (by omega)) (br_f (nI_ge hj (by omega)) (h1 ⟨j, hj, rfl⟩))
theorem cy_missing {post : Int32 → Prop} (hc : c ≤ 8) {R O : Nat → Int32} {p : Int32} (h0 : ¬ (∃ j, j < c ∧ p = nI j) → post 1) (h1 : (∃ j, j < c ∧ p = nI j) → post 0) : wpY_missing post (nI c, U, C, W, S, E, R, O) p := by
  unfold wpY_missing
  dsimp only
  rcases pk_ix p (n := c) (by omega) with h | h | ⟨j, hj, rfl⟩
  · refine br_t h (h0 ?_)
    rintro ⟨j, hj, e⟩
    rw [e] at h; exact nI_pos (by omega) h
  · refine br_f (fun hn => nI_pos (n := c) (by omega) (Int32.lt_of_le_of_lt h hn)) (br_f (Int32.not_lt.mpr h) (h0 ?_))
    rintro ⟨j, hj, e⟩
    rw [e] at h; exact nI_ge hj (by omega) h
  · exact br_f (nI_pos (by omega)) (br_t (nI_lt hj (by omega)) (h1 ⟨j, hj, rfl⟩))
theorem cy_weak {post : Int32 → SY → Prop} {R0 O : Nat → Int32} {o : Nat} (hw : cc_WF c U C W S E) (hc : c ≤ 7) (ho : o < c)
    (h0 : ∀ R, ¬ (W o = 0 → cc_Wk c C W S E o) → post 0 (nI c, U, C, W, S, E, R, O)) (h1 : ∀ R, (W o = 0 → cc_Wk c C W S E o) → post 1 (nI c, U, C, W, S, E, R, O)) : wpY_weak post (nI c, U, C, W, S, E, R0, O) (nI o) := by
  unfold wpY_weak
  dsimp only
  rw [nI_clamp (show o < 2 ^ 31 by omega)]
  refine cy_missing (by omega) (fun hn => absurd ⟨o, ho, rfl⟩ hn) (fun _ => br_t rfl ⟨vp_in_nI (by omega) (by omega), br_c (fun z => ?_) (fun z => h1 R0 (fun z' => absurd z' z))⟩)
  have hiff := cc_weak hw (by omega) ho z
  exact cy_hasRow hw hc ho (fun R hr => br_t rfl (h0 R (fun hk => hr (hiff.mpr (hk z))))) (fun R hr => br_f (by decide) (h1 R (fun _ => hiff.mp hr)))
theorem cy_strong {post : Int32 → SY → Prop} {R0 O : Nat → Int32} {o : Nat} (hw : cc_WF c U C W S E) (hc : c ≤ 7) (ho : o < c)
    (h0 : ∀ R, ¬ cc_Row C W S E o (cc_mu U o 1) → post 0 (nI c, U, C, W, S, E, R, O)) (h1 : ∀ R, cc_Row C W S E o (cc_mu U o 1) → post 1 (nI c, U, C, W, S, E, R, O)) : wpY_strong post (nI c, U, C, W, S, E, R0, O) (nI o) := by
  unfold wpY_strong
  dsimp only
  exact cy_missing (by omega) (fun hn => absurd ⟨o, ho, rfl⟩ hn) (fun _ => br_t rfl (cy_hasRow hw hc ho (fun R hr => br_t rfl (h0 R hr)) (fun R hr => br_f (by decide) (h1 R hr))))
end
/-! sound -/
noncomputable def cc_if (P : Prop) (x : Int32) : Int32 := @ite Int32 P (Classical.propDecidable P) x 0
theorem cc_if_t {P : Prop} {x : Int32} (h : P) : cc_if P x = x := by unfold cc_if; exact if_pos h
theorem cc_if_f {P : Prop} {x : Int32} (h : ¬ P) : cc_if P x = 0 := by unfold cc_if; exact if_neg h
def cc_tr (P : Nat → Prop) (c o : Nat) (v x : Int32) : Prop := (x = v ∧ ∀ o', o' < o → P o') ∨ (x = 0 ∧ ∃ o', o' < c ∧ ¬ P o')
theorem cc_tr_t {P : Nat → Prop} {c o : Nat} {v x : Int32} (h : cc_tr P c o v x) (hp : P o) : cc_tr P c (o + 1) v x := by
  rcases h with ⟨e, h⟩ | h
  · refine Or.inl ⟨e, fun o' ho' => ?_⟩
    by_cases e2 : o' = o
    · rw [e2]; exact hp
    · exact h o' (by omega)
  · exact Or.inr h
theorem cc_tr_f {P : Nat → Prop} {c o : Nat} {v : Int32} (ho : o < c) (hp : ¬ P o) : cc_tr P c (o + 1) v 0 := Or.inr ⟨rfl, o, ho, hp⟩
theorem cc_tr_e {P : Nat → Prop} {c : Nat} {v x : Int32} (h : cc_tr P c c v x) : x = cc_if (∀ o, o < c → P o) v := by
  rcases h with ⟨e, h⟩ | ⟨e, o, ho, h⟩
  · rw [e, cc_if_t h]
  · rw [e, cc_if_f (fun hh => h (hh o ho))]
section
variable {c : Nat} {U C W S E : Nat → Int32}
theorem cx_sound_6 {post : Int32 → SX → Prop} (hw : cc_WF c U C W S E) (hc : c ≤ 7) (K : ∀ M, post (cc_if (∀ o, o < c → W o = 0 → cc_Wk c C W S E o) 1 + cc_if (∀ o, o < c → cc_Row C W S E o (cc_mu U o 1)) 2 + cc_if (cc_Cv c C W S E) 4) (nI c, U, C, W, S, E, M)) :
    ∀ n o M x1 x2, o ≤ c → c - o < n → cc_tr (fun o => W o = 0 → cc_Wk c C W S E o) c o 1 x1 → cc_tr (fun o => cc_Row C W S E o (cc_mu U o 1)) c o 2 x2 → wX_sound_6 post n x1 x2 (nI o) (nI c) U C W S E M := by
  intro n
  induction n with
  | zero => intro o M x1 x2 _ h; omega
  | succ n ih =>
    intro o M x1 x2 ho hn h1 h2
    have s27 : o < c → ∀ z0, cc_tr (fun o => W o = 0 → cc_Wk c C W S E o) c (o + 1) 1 z0 → wX_sound_27 post (wX_sound_6 post n) x2 (nI o) z0 (nI c) U C W S E M := by
      intro h z0 hz
      exact cx_isStrong hw hc h (fun M' hr => br_t rfl (nm_r (nI_1 o) (ih (o + 1) M' z0 0 (by omega) (by omega) hz (cc_tr_f h hr)))) (fun M' hr => br_f (by decide) (nm_r (nI_1 o) (ih (o + 1) M' z0 x2 (by omega) (by omega) hz (cc_tr_t h2 hr))))
    rw [wX_sound_6]
    dsimp only
    refine pk_le c o (fun h => ?_) (fun h => cx_weak hw (by omega) h (fun hk => br_t rfl (s27 h 0 (cc_tr_f h hk))) (fun hk => br_f (by decide) (s27 h x1 (cc_tr_t h1 hk))))
    have e : o = c := by omega
    subst e
    rw [cc_tr_e h1, cc_tr_e h2]
    refine cx_converges hw (by omega) (fun w hwc _ => by omega) (fun M' hcv => br_t rfl ?_) (fun M' hcv => br_f (by decide) ?_)
    · have K' := K M'
      rw [cc_if_f hcv] at K'
      exact K'
    · have K' := K M'
      rw [cc_if_t hcv] at K'
      exact K'
theorem cy_sound_6 {post : Int32 → SY → Prop} (hw : cc_WF c U C W S E) (hc : c ≤ 7) (K : ∀ R O, post (cc_if (∀ o, o < c → W o = 0 → cc_Wk c C W S E o) 1 + cc_if (∀ o, o < c → cc_Row C W S E o (cc_mu U o 1)) 2 + cc_if (cc_Cv c C W S E) 4) (nI c, U, C, W, S, E, R, O)) :
    ∀ n o R O x1 x2, o ≤ c → c - o < n → cc_tr (fun o => W o = 0 → cc_Wk c C W S E o) c o 1 x1 → cc_tr (fun o => cc_Row C W S E o (cc_mu U o 1)) c o 1 x2 → wY_sound_6 post n x1 x2 (nI o) (nI c) U C W S E R O := by
  intro n
  induction n with
  | zero => intro o R O x1 x2 _ h; omega
  | succ n ih =>
    intro o R O x1 x2 ho hn h1 h2
    have s24 : o < c → ∀ R z0, cc_tr (fun o => W o = 0 → cc_Wk c C W S E o) c (o + 1) 1 z0 → wY_sound_24 post (wY_sound_6 post n) z0 x2 (nI o) (nI c) U C W S E R O := by
      intro h R z0 hz
      exact cy_strong hw hc h (fun R' hr => br_t rfl (nm_r (nI_1 o) (ih (o + 1) R' O z0 0 (by omega) (by omega) hz (cc_tr_f h hr)))) (fun R' hr => br_f (by decide) (nm_r (nI_1 o) (ih (o + 1) R' O z0 x2 (by omega) (by omega) hz (cc_tr_t h2 hr))))
    rw [wY_sound_6]
    dsimp only
    refine pk_le c o (fun h => ?_) (fun h => cy_weak hw hc h (fun R' hk => br_t rfl (s24 h R' 0 (cc_tr_f h hk))) (fun R' hk => br_f (by decide) (s24 h R' x1 (cc_tr_t h1 hk))))
    have e : o = c := by omega
    subst e
    have s58 : ∀ z0 z1, z1 = cc_if (∀ o', o' < o → W o' = 0 → cc_Wk o C W S E o') 1 → z0 = cc_if (∀ o', o' < o → cc_Row C W S E o' (cc_mu U o' 1)) 2 → wY_sound_58 post z0 z1 (nI o) U C W S E R O := by
      intro z0 z1 e1 e2
      subst e1 e2
      refine cy_converges hw (Nat.le_refl _) (by omega) (fun a h1 h2 => by omega) (fun O' hcv => br_t rfl ?_) (fun O' hcv => br_f (by decide) ?_)
      · have K' := K R O'
        rw [cc_if_f hcv] at K'
        exact K'
      · have K' := K R O'
        rw [cc_if_t hcv] at K'
        exact K'
    have s49 : ∀ z1, z1 = cc_if (∀ o', o' < o → W o' = 0 → cc_Wk o C W S E o') 1 → wY_sound_49 post x2 z1 (nI o) U C W S E R O := by
      intro z1 e1
      rcases h2 with ⟨e, h⟩ | ⟨e, o', ho', h⟩
      · exact br_f (by rw [e]; decide) (s58 2 z1 e1 (cc_if_t h).symm)
      · exact br_t e (s58 0 z1 e1 (cc_if_f (fun hh => h (hh o' ho'))).symm)
    rcases h1 with ⟨e, h⟩ | ⟨e, o', ho', h⟩
    · exact br_f (by rw [e]; decide) (s49 1 (cc_if_t h).symm)
    · exact br_t e (s49 0 (cc_if_f (fun hh => h (hh o' ho'))).symm)
end
/-! choices -/
def cc_sv : Nat → Int32
  | 0 => -1
  | t + 1 => nI t
theorem cc_sv_1 (t : Nat) : cc_sv t + 1 = cc_sv (t + 1) := by
  cases t with
  | zero => decide
  | succ t => exact nI_1 t
theorem cc_sv_le {c t : Nat} (hc : c ≤ 8) (h : t ≤ c) : ¬ nI c ≤ cc_sv t := by
  cases t with
  | zero =>
    intro hn
    exact nI_pos (n := c) (by omega) (Int32.lt_of_le_of_lt hn (by decide))
  | succ t => exact nI_ge (by omega) (by omega)
theorem cc_128 : (1 : Int32) <<< ((7 : Int32) &&& 31) = 128 := by decide
theorem cc_choices {c : Nat} (hc : c ≤ 7) {v1 v2 : Int32} (hv2 : v2 = 0 ∨ v2 = 1) : ∀ d t, t + d = c + 1 → ∀ (U C W S E : Nat → Int32) (set : Int32), cc_WF c U C W S E →
    ∃ set' U' C' W' S' E', cc_WF c U' C' W' S' E' ∧ (∀ M (post : Int32 → SX → Prop), (∀ M', post set' (nI c, U', C', W', S', E', M')) → wX_choices_25 post v1 v2 (d + 1) set (cc_sv t) (nI c) U C W S E M) ∧ (∀ R O (post : Int32 → SY → Prop), (∀ R' O', post set' (nI c, U', C', W', S', E', R', O')) → wY_choices_15 post v1 v2 (d + 1) set (cc_sv t) (nI c) U C W S E R O) := by
  intro d
  induction d with
  | zero =>
    intro t ht U C W S E set hw
    have e : t = c + 1 := by omega
    subst e
    exact ⟨set, U, C, W, S, E, hw, fun M post hp => br_t (nI_le (Nat.le_refl _) (by omega)) (hp M), fun R O post hp => br_t (nI_le (Nat.le_refl _) (by omega)) (hp R O)⟩
  | succ d ih =>
    intro t ht U C W S E set hw
    have hle : ¬ nI c ≤ cc_sv t := cc_sv_le (by omega) (by omega)
    by_cases hso : cc_so c C W v2 (cc_sv t)
    · have hw1 := cc_WF_enter (p0 := v1) (p2 := 0) hw (by omega) hv2 (fun _ => hso)
      have hwc := cc_WF_mono hw1 (Nat.le_succ c)
      have hW7 : ∀ w, w < c + 1 → ¬ upd W c 0 w = 0 → w < 7 := by
        intro w hwlt hw0
        by_cases e : w = c
        · rw [e, pk_us] at hw0; exact absurd rfl hw0
        · omega
      have hWc : ∀ a, c ≤ a → a < c + 1 → upd W c 0 a = 0 := by
        intro a h1 h2
        have e : a = c := by omega
        rw [e, pk_us]
      by_cases hcv : cc_Cv (c + 1) (upd C c v2) (upd W c 0) (upd S c (cc_sv t)) (upd E c (cx_ev U E v1 (cc_sv t) c))
      · obtain ⟨set', U', C', W', S', E', h1, h2, h3⟩ := ih (t + 1) (by omega) _ _ _ _ _ (set ||| (match t with | 0 => 128 | t' + 1 => (1 : Int32) <<< (nI t' &&& 31))) hwc
        refine ⟨set', U', C', W', S', E', h1, fun M post hp => ?_, fun R O post hp => ?_⟩
        · rw [wX_choices_25]
          dsimp only
          refine br_f hle (cx_isSource (by omega) (fun hn => absurd hso hn) (fun _ => br_f (by decide) (cx_enter (by omega) (Or.inl rfl) ?_)))
          dsimp only
          refine cx_converges hw1 (by omega) hW7 (fun M' hn => absurd hcv hn) (fun M' _ => nm_r (nI_pred c) (br_f (by decide) ?_))
          cases t with
          | zero => exact br_f (by decide) (nm_r (congrArg (fun z => set ||| z) cc_128) (nm_r (cc_sv_1 0) (h2 M' post hp)))
          | succ t => exact br_t (nI_pos' (by omega)) (nm_e (nm_r (cc_sv_1 (t + 1)) (h2 M' post hp)))
        · rw [wY_choices_15]
          dsimp only
          refine br_f hle (cy_noSource (by omega) (fun hn => absurd hso hn) (fun _ => br_t rfl (cy_put (by omega) (Or.inl rfl) ?_)))
          dsimp only
          rw [nI_1 c]
          refine cy_converges hw1 (by omega) (by omega) hWc (fun O' hn => absurd hcv hn) (fun O' _ => br_f (by decide) ?_)
          cases t with
          | zero => exact br_f (by decide) (nm_e (nm_r (cc_sv_1 0) (h3 R O' post hp)))
          | succ t => exact br_t (nI_pos' (by omega)) (nm_e (nm_r (cc_sv_1 (t + 1)) (h3 R O' post hp)))
      · obtain ⟨set', U', C', W', S', E', h1, h2, h3⟩ := ih (t + 1) (by omega) _ _ _ _ _ set hwc
        refine ⟨set', U', C', W', S', E', h1, fun M post hp => ?_, fun R O post hp => ?_⟩
        · rw [wX_choices_25]
          dsimp only
          refine br_f hle (cx_isSource (by omega) (fun hn => absurd hso hn) (fun _ => br_f (by decide) (cx_enter (by omega) (Or.inl rfl) ?_)))
          dsimp only
          exact cx_converges hw1 (by omega) hW7 (fun M' _ => nm_r (nI_pred c) (br_t rfl (nm_r (cc_or0 set) (nm_r (cc_sv_1 t) (h2 M' post hp))))) (fun M' hn => absurd hn hcv)
        · rw [wY_choices_15]
          dsimp only
          refine br_f hle (cy_noSource (by omega) (fun hn => absurd hso hn) (fun _ => br_t rfl (cy_put (by omega) (Or.inl rfl) ?_)))
          dsimp only
          rw [nI_1 c]
          exact cy_converges hw1 (by omega) (by omega) hWc (fun O' _ => br_t rfl (nm_r (cc_sv_1 t) (h3 R O' post hp))) (fun O' hn => absurd hn hcv)
    · obtain ⟨set', U', C', W', S', E', h1, h2, h3⟩ := ih (t + 1) (by omega) U C W S E set hw
      refine ⟨set', U', C', W', S', E', h1, fun M post hp => ?_, fun R O post hp => ?_⟩
      · rw [wX_choices_25]
        dsimp only
        exact br_f hle (cx_isSource (by omega) (fun _ => br_t rfl (nm_r (cc_sv_1 t) (h2 M post hp))) (fun hn => absurd hn hso))
      · rw [wY_choices_15]
        dsimp only
        exact br_f hle (cy_noSource (by omega) (fun _ => br_f (by decide) (nm_r (cc_sv_1 t) (h3 R O post hp))) (fun hn => absurd hn hso))
end
section
/-! the relation, and what is owed -/
/-- both sides hold the same history, at most seven operations; X's must and Y's rows and order are anything -/
def i_Rel (_ : Nat) (u : SX) (v : SY) : Prop := ∃ (c : Nat) (U C W S E M R O : Nat → Int32), c ≤ 7 ∧ cc_WF c U C W S E ∧ u = (nI c, U, C, W, S, E, M) ∧ v = (nI c, U, C, W, S, E, R, O)
theorem cc_rel {k c : Nat} {U C W S E : Nat → Int32} (M R O : Nat → Int32) (hc : c ≤ 7) (hw : cc_WF c U C W S E) : i_Rel k (nI c, U, C, W, S, E, M) (nI c, U, C, W, S, E, R, O) := ⟨c, U, C, W, S, E, M, R, O, hc, hw, rfl, rfl⟩
theorem i_up {k : Nat} {u : SX} {v : SY} (h : i_Rel k u v) : i_Rel (k + 4) u v := h
theorem i_vc0 : wpX_init (fun u => wpY_init (fun v => i_Rel 0 u v)) := by
  unfold wpX_init wpY_init
  rw [← nI_0]
  exact cc_rel _ _ _ (by omega) (fun i hi => by omega)
theorem i_vc_write {k : Nat} {u : SX} {v : SY} (I : i_Rel k u v) (hk : k + 4 ≤ 2048) (v1 : Int32) (v2 : Int32) : wpX_write (fun r u' => wpY_write (fun r' v' => r' = r ∧ i_Rel (k + 4) u' v') v v1 v2) u v1 v2 := by
  obtain ⟨c, U, C, W, S, E, M, R, O, hc, hw, rfl, rfl⟩ := I
  have bad : cc_bp v1 v2 → wpY_write (fun r' v' => r' = -1 ∧ i_Rel (k + 4) (nI c, U, C, W, S, E, M) v') (nI c, U, C, W, S, E, R, O) v1 v2 := by
    intro hb
    unfold wpY_write
    dsimp only
    exact cy_badPlace (fun _ => br_f (by decide) ⟨rfl, cc_rel _ _ _ hc hw⟩) (fun hn => absurd hb hn)
  unfold wpX_write
  dsimp only
  refine br_c (fun z1 => bad (Or.inl z1)) (fun z1 => br_c (fun z2 => bad (Or.inr (Or.inl z2))) (fun z2 => br_c (fun z3 => bad (Or.inr (Or.inr (Or.inl z3)))) (fun z3 => br_c (fun z4 => bad (Or.inr (Or.inr (Or.inr z4)))) (fun z4 => ?_))))
  have hnb : ¬ cc_bp v1 v2 := by
    rintro (h | h | h | h)
    · exact z1 h
    · exact z2 h
    · exact z3 h
    · exact z4 h
  refine pk_lt c 7 (fun h => cx_enter (by omega) (Or.inr rfl) ?_) (fun h => ?_)
  · dsimp only
    unfold wpY_write
    dsimp only
    refine cy_badPlace (fun hb => absurd hb hnb) (fun _ => br_t rfl (pk_eq c 7 (fun e => by omega) (fun _ => cy_put (by omega) (Or.inr ⟨rfl, rfl⟩) ?_)))
    dsimp only
    exact nm_r (nI_1 c) ⟨rfl, cc_rel _ _ _ (by omega) (cc_WF_enter hw (by omega) (cc_cell z3 z4) (fun h => absurd h (by decide)))⟩
  · unfold wpY_write
    dsimp only
    exact cy_badPlace (fun hb => absurd hb hnb) (fun _ => br_t rfl (pk_eq c 7 (fun e => ⟨rfl, cc_rel _ _ _ hc hw⟩) (fun e => by omega)))
theorem i_vc_read {k : Nat} {u : SX} {v : SY} (I : i_Rel k u v) (hk : k + 4 ≤ 2048) (v1 : Int32) (v2 : Int32) (v3 : Int32) : wpX_read (fun r u' => wpY_read (fun r' v' => r' = r ∧ i_Rel (k + 4) u' v') v v1 v2 v3) u v1 v2 v3 := by
  obtain ⟨c, U, C, W, S, E, M, R, O, hc, hw, rfl, rfl⟩ := I
  have bad : cc_bp v1 v2 → wpY_read (fun r' v' => r' = -1 ∧ i_Rel (k + 4) (nI c, U, C, W, S, E, M) v') (nI c, U, C, W, S, E, R, O) v1 v2 v3 := by
    intro hb
    unfold wpY_read
    dsimp only
    exact cy_badPlace (fun _ => br_f (by decide) ⟨rfl, cc_rel _ _ _ hc hw⟩) (fun hn => absurd hb hn)
  unfold wpX_read
  dsimp only
  refine br_c (fun z1 => bad (Or.inl z1)) (fun z1 => br_c (fun z2 => bad (Or.inr (Or.inl z2))) (fun z2 => br_c (fun z3 => bad (Or.inr (Or.inr (Or.inl z3)))) (fun z3 => br_c (fun z4 => bad (Or.inr (Or.inr (Or.inr z4)))) (fun z4 => ?_))))
  have hnb : ¬ cc_bp v1 v2 := by
    rintro (h | h | h | h)
    · exact z1 h
    · exact z2 h
    · exact z3 h
    · exact z4 h
  refine pk_le 7 c (fun h => ?_) (fun h => cx_isSource (by omega) (fun hs => br_t rfl ?_) (fun hs => br_f (by decide) (cx_enter (by omega) (Or.inl rfl) ?_)))
  · unfold wpY_read
    dsimp only
    exact cy_badPlace (fun hb => absurd hb hnb) (fun _ => br_t rfl (pk_eq c 7 (fun e => ⟨rfl, cc_rel _ _ _ hc hw⟩) (fun e => by omega)))
  · unfold wpY_read
    dsimp only
    exact cy_badPlace (fun hb => absurd hb hnb) (fun _ => br_t rfl (pk_eq c 7 (fun e => by omega) (fun _ => cy_noSource (by omega) (fun _ => br_f (by decide) ⟨rfl, cc_rel _ _ _ hc hw⟩) (fun hs' => absurd hs' hs))))
  · dsimp only
    unfold wpY_read
    dsimp only
    refine cy_badPlace (fun hb => absurd hb hnb) (fun _ => br_t rfl (pk_eq c 7 (fun e => by omega) (fun _ => cy_noSource (by omega) (fun hs' => absurd hs hs') (fun _ => br_t rfl (cy_put (by omega) (Or.inl rfl) ?_)))))
    dsimp only
    exact nm_r (nI_1 c) ⟨rfl, cc_rel _ _ _ (by omega) (cc_WF_enter hw (by omega) (cc_cell z3 z4) (fun _ => hs))⟩
theorem i_vc_back {k : Nat} {u : SX} {v : SY} (I : i_Rel k u v) (hk : k + 4 ≤ 2048) : wpX_back (fun r u' => wpY_back (fun r' v' => r' = r ∧ i_Rel (k + 4) u' v') v) u := by
  obtain ⟨c, U, C, W, S, E, M, R, O, hc, hw, rfl, rfl⟩ := I
  unfold wpX_back wpY_back
  dsimp only
  refine pk_eq c 0 (fun e => ?_) (fun e => ?_)
  · exact pk_eq c 0 (fun _ => ⟨rfl, cc_rel _ _ _ hc hw⟩) (fun e' => absurd e e')
  · obtain ⟨d, rfl⟩ : ∃ d, c = d + 1 := ⟨c - 1, by omega⟩
    exact nm_r (nI_pred d) (pk_eq (d + 1) 0 (fun e' => absurd e' e) (fun _ => nm_r (nI_pred d) ⟨rfl, cc_rel _ _ _ (by omega) (cc_WF_mono hw (Nat.le_succ d))⟩))
theorem i_vc_before {k : Nat} {u : SX} {v : SY} (I : i_Rel k u v) (hk : k + 4 ≤ 2048) (v1 : Int32) (v2 : Int32) : wpX_before (fun r => wpY_before (fun r' => r' = r ∧ i_Rel (k + 4) u v) v v1 v2) u v1 v2 := by
  obtain ⟨c, U, C, W, S, E, M, R, O, hc, hw, rfl, rfl⟩ := I
  have R1 : i_Rel (k + 4) (nI c, U, C, W, S, E, M) (nI c, U, C, W, S, E, R, O) := cc_rel _ _ _ hc hw
  unfold wpX_before wpY_before
  dsimp only
  refine cx_isHeld (by omega) (fun h1 => br_t rfl (cy_missing (by omega) (fun _ => br_f (by decide) ⟨rfl, R1⟩) (fun h => absurd h h1))) (fun h1 => br_f (by decide) (cx_isHeld (by omega) (fun h2 => br_t rfl (cy_missing (by omega) (fun h => absurd h1 h) (fun _ => br_t rfl (cy_missing (by omega) (fun _ => br_f (by decide) ⟨rfl, R1⟩) (fun h => absurd h h2))))) (fun h2 => br_f (by decide) ?_)))
  obtain ⟨a, ha, rfl⟩ := h1
  obtain ⟨b, hb, rfl⟩ := h2
  have hi : vp_in (nI b) 8 := vp_in_nI (by omega) (by omega)
  refine ⟨hi, cy_missing (by omega) (fun h => absurd ⟨a, ha, rfl⟩ h) (fun _ => br_t rfl (cy_missing (by omega) (fun h => absurd ⟨b, hb, rfl⟩ h) (fun _ => br_t rfl ⟨hi, ?_, R1⟩)))⟩
  rw [cc_vu (by omega), cc_vs (by omega)]
theorem i_vc_weak {k : Nat} {u : SX} {v : SY} (I : i_Rel k u v) (hk : k + 4 ≤ 2048) (v1 : Int32) : wpX_weak (fun r => wpY_weak (fun r' v' => r' = r ∧ i_Rel (k + 4) u v') v v1) u v1 := by
  obtain ⟨c, U, C, W, S, E, M, R, O, hc, hw, rfl, rfl⟩ := I
  unfold wpX_weak
  dsimp only
  refine cx_isHeld (by omega) (fun h1 => br_t rfl ?_) (fun h1 => br_f (by decide) ?_)
  · unfold wpY_weak
    dsimp only
    exact cy_missing (by omega) (fun _ => br_f (by decide) ⟨rfl, cc_rel _ _ _ hc hw⟩) (fun h => absurd h h1)
  · obtain ⟨o, ho, rfl⟩ := h1
    exact cx_weak hw (by omega) ho (fun hk => br_t rfl (cy_weak hw hc ho (fun R' _ => ⟨rfl, cc_rel _ _ _ hc hw⟩) (fun R' h => absurd h hk))) (fun hk => br_f (by decide) (cy_weak hw hc ho (fun R' h => absurd hk h) (fun R' _ => ⟨rfl, cc_rel _ _ _ hc hw⟩)))
theorem i_vc_strong {k : Nat} {u : SX} {v : SY} (I : i_Rel k u v) (hk : k + 4 ≤ 2048) (v1 : Int32) : wpX_strong (fun r u' => wpY_strong (fun r' v' => r' = r ∧ i_Rel (k + 4) u' v') v v1) u v1 := by
  obtain ⟨c, U, C, W, S, E, M, R, O, hc, hw, rfl, rfl⟩ := I
  unfold wpX_strong
  dsimp only
  refine cx_isHeld (by omega) (fun h1 => br_t rfl ?_) (fun h1 => br_f (by decide) ?_)
  · unfold wpY_strong
    dsimp only
    exact cy_missing (by omega) (fun _ => br_f (by decide) ⟨rfl, cc_rel _ _ _ hc hw⟩) (fun h => absurd h h1)
  · obtain ⟨o, ho, rfl⟩ := h1
    exact cx_isStrong hw hc ho (fun M' hk => br_t rfl (cy_strong hw hc ho (fun R' _ => ⟨rfl, cc_rel _ _ _ hc hw⟩) (fun R' h => absurd h hk))) (fun M' hk => br_f (by decide) (cy_strong hw hc ho (fun R' h => absurd hk h) (fun R' _ => ⟨rfl, cc_rel _ _ _ hc hw⟩)))
theorem i_vc_sound {k : Nat} {u : SX} {v : SY} (I : i_Rel k u v) (hk : k + 4 ≤ 2048) : wpX_sound (fun r u' => wpY_sound (fun r' v' => r' = r ∧ i_Rel (k + 4) u' v') v) u := by
  obtain ⟨c, U, C, W, S, E, M, R, O, hc, hw, rfl, rfl⟩ := I
  exact ⟨c + 1, cx_sound_6 hw hc (fun M' => ⟨c + 1, cy_sound_6 hw hc (fun R' O' => ⟨rfl, cc_rel _ _ _ hc hw⟩) (c + 1) 0 R O 1 1 (by omega) (by omega) (Or.inl ⟨rfl, fun o' ho' => by omega⟩) (Or.inl ⟨rfl, fun o' ho' => by omega⟩)⟩) (c + 1) 0 M 1 2 (by omega) (by omega) (Or.inl ⟨rfl, fun o' ho' => by omega⟩) (Or.inl ⟨rfl, fun o' ho' => by omega⟩)⟩
theorem i_vc_choices {k : Nat} {u : SX} {v : SY} (I : i_Rel k u v) (hk : k + 4 ≤ 2048) (v1 : Int32) (v2 : Int32) : wpX_choices (fun r u' => wpY_choices (fun r' v' => r' = r ∧ i_Rel (k + 4) u' v') v v1 v2) u v1 v2 := by
  obtain ⟨c, U, C, W, S, E, M, R, O, hc, hw, rfl, rfl⟩ := I
  have bad : cc_bp v1 v2 → wpY_choices (fun r' v' => r' = -1 ∧ i_Rel (k + 4) (nI c, U, C, W, S, E, M) v') (nI c, U, C, W, S, E, R, O) v1 v2 := by
    intro hb
    unfold wpY_choices
    dsimp only
    exact cy_badPlace (fun _ => br_f (by decide) ⟨rfl, cc_rel _ _ _ hc hw⟩) (fun hn => absurd hb hn)
  unfold wpX_choices
  dsimp only
  refine br_c (fun z1 => bad (Or.inl z1)) (fun z1 => br_c (fun z2 => bad (Or.inr (Or.inl z2))) (fun z2 => br_c (fun z3 => bad (Or.inr (Or.inr (Or.inl z3)))) (fun z3 => br_c (fun z4 => ?_) (fun z4 => bad (Or.inr (Or.inr (Or.inr (Int32.not_le.mp z4))))))))
  have hnb : ¬ cc_bp v1 v2 := by
    rintro (h | h | h | h)
    · exact z1 h
    · exact z2 h
    · exact z3 h
    · exact Int32.not_lt.mpr z4 h
  obtain ⟨set', U', C', W', S', E', hw', hX, hY⟩ := cc_choices (v1 := v1) hc (cc_cell z3 (Int32.not_lt.mpr z4)) (c + 1) 0 (by omega) U C W S E 0 hw
  refine ⟨c + 1 + 1, hX M _ (fun M' => ?_)⟩
  unfold wpY_choices
  dsimp only
  exact cy_badPlace (fun hb => absurd hb hnb) (fun _ => br_t rfl ⟨c + 1 + 1, hY R O _ (fun R' O' => ⟨rfl, cc_rel _ _ _ hc hw'⟩)⟩)
end
