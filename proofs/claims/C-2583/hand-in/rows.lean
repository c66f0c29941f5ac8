section
/-! rows pasted from the kit (BITS, PURE-ROWS): starting text -/
def bt (x : Int32) (i : Nat) : Bool := x.toBitVec.getLsbD i
theorem b_ext {x y : Int32} (h : ∀ i, i < 32 → bt x i = bt y i) : x = y := Int32.toBitVec_inj.mp (BitVec.eq_of_getLsbD_eq (fun i hi => h i hi))
theorem b_or (x y : Int32) (i : Nat) : bt (x ||| y) i = (bt x i || bt y i) := by unfold bt; rw [Int32.toBitVec_or, BitVec.getLsbD_or]
theorem b_and (x y : Int32) (i : Nat) : bt (x &&& y) i = (bt x i && bt y i) := by unfold bt; rw [Int32.toBitVec_and, BitVec.getLsbD_and]
theorem b_xor (x y : Int32) (i : Nat) : bt (x ^^^ y) i = (bt x i ^^ bt y i) := by unfold bt; rw [Int32.toBitVec_xor, BitVec.getLsbD_xor]
theorem b_big {x : Int32} {i : Nat} (h : 32 ≤ i) : bt x i = false := BitVec.getLsbD_of_ge _ _ h
theorem b_m1 : ∀ i, i < 32 → bt (-1) i = true := by decide +kernel
theorem b_0 (i : Nat) : bt 0 i = false := BitVec.getLsbD_zero
theorem s_l : ∀ n, n < 32 → ((nI n &&& 31).toBitVec.smod 32).toNat = n := by decide +kernel
theorem b_shl (n : Nat) (hn : n < 32) (x : Int32) {i : Nat} (hi : i < 32) : bt (x <<< (nI n &&& 31)) i = (decide (n ≤ i) && bt x (i - n)) := by
  unfold bt
  rw [Int32.toBitVec_shiftLeft]
  show (x.toBitVec <<< ((nI n &&& 31).toBitVec.smod 32).toNat).getLsbD i = _
  rw [s_l n hn, BitVec.getLsbD_shiftLeft]
  rcases Nat.lt_or_ge i n with h | h
  · simp [h, Nat.not_le.mpr h]
  · simp [hi, h, Nat.not_lt.mpr h]
theorem b_sshr (n : Nat) (hn : n < 32) (x : Int32) {i : Nat} (hi : i < 32) : bt (x >>> (nI n &&& 31)) i = if n + i < 32 then bt x (n + i) else bt x 31 := by
  unfold bt
  rw [Int32.toBitVec_shiftRight]
  show (x.toBitVec.sshiftRight ((nI n &&& 31).toBitVec.smod 32).toNat).getLsbD i = _
  rw [s_l n hn, BitVec.getLsbD_sshiftRight, BitVec.msb_eq_getLsbD_last]
  simp [hi]
theorem wb_tb (n : Nat) : (lN n).toBitVec = BitVec.ofNat 64 n := rfl
theorem wb_inj {a b : Int64} (h : a.toBitVec = b.toBitVec) : a = b := Int64.toBitVec_inj.mp h
theorem wb_c : ∀ k, k < 64 → ((nI k).toInt64 &&& 63) = lN k := by decide +kernel
theorem wb_sm : ∀ k, k < 64 → (BitVec.ofNat 64 k).smod 64 = BitVec.ofNat 64 k := by decide +kernel
theorem pk_us {f : Nat → Int32} {k : Nat} {x : Int32} : upd f k x k = x := if_pos rfl
theorem pk_un {f : Nat → Int32} {k j : Nat} {x : Int32} (h : j ≠ k) : upd f k x j = f j := if_neg h
theorem pk_sub {a b : Nat} (h : b ≤ a) : nI a - nI b = nI (a - b) := by
  obtain ⟨c, rfl⟩ : ∃ c, a = c + b := ⟨a - b, by omega⟩
  rw [← nI_add, Int32.add_sub_cancel, Nat.add_sub_cancel]
theorem pk_m1 (n : Nat) : nI (n + 1) + (-1) = nI n := by
  rw [← nI_1, Int32.add_assoc, show (1 : Int32) + (-1) = 0 from rfl, Int32.add_zero]
theorem pk_ix (x : Int32) {n : Nat} (hn : n < 2 ^ 31) : x < 0 ∨ nI n ≤ x ∨ ∃ j : Nat, j < n ∧ x = nI j := by
  by_cases h : x < 0
  · exact Or.inl h
  · obtain ⟨j, hj, rfl⟩ := nI_of h
    by_cases h2 : j < n
    · exact Or.inr (Or.inr ⟨j, h2, rfl⟩)
    · exact Or.inr (Or.inl (nI_le (by omega) hj))
theorem pk_le {x y : Int32} {A B : Prop} (a b : Nat) (f : a ≤ b → A) (g : b < a → B) (hx : x = nI a := by rfl) (hy : y = nI b := by rfl) (ha : a < 2 ^ 31 := by omega) (hb : b < 2 ^ 31 := by omega) : (x ≤ y → A) ∧ (¬ x ≤ y → B) := by
  subst hx hy
  rw [nI_leI ha hb]
  exact ⟨f, fun z => g (by omega)⟩
theorem pk_lt {x y : Int32} {A B : Prop} (a b : Nat) (f : a < b → A) (g : b ≤ a → B) (hx : x = nI a := by rfl) (hy : y = nI b := by rfl) (ha : a < 2 ^ 31 := by omega) (hb : b < 2 ^ 31 := by omega) : (x < y → A) ∧ (¬ x < y → B) := by
  subst hx hy
  rw [nI_ltI ha hb]
  exact ⟨f, fun z => g (by omega)⟩
theorem pk_eq {x y : Int32} {A B : Prop} (a b : Nat) (f : a = b → A) (g : a ≠ b → B) (hx : x = nI a := by rfl) (hy : y = nI b := by rfl) (ha : a < 2 ^ 31 := by omega) (hb : b < 2 ^ 31 := by omega) : (x = y → A) ∧ (¬ x = y → B) := by
  subst hx hy
  rw [nI_eq ha hb]
  exact ⟨f, g⟩
theorem pk_in {x : Int32} (n N : Nat) (h : n < N) (hx : x = nI n := by rfl) (hN : N < 2 ^ 31 := by omega) : vp_in x N := by
  subst hx
  exact vp_in_nI h hN
theorem pk_cl {x : Int32} (n : Nat) (hx : x = nI n := by rfl) (h : n < 2 ^ 31 := by omega) : x.toNatClampNeg = n := by
  subst hx
  exact nI_clamp h
end
section
/-! masks of six bits, the bits of a long, counting, least sets -/
theorem dm_b1 : ∀ j, j < 32 → bt 1 j = decide (j = 0) := by decide +kernel
theorem dm_1 (v : Nat) (hv : v < 32) {i : Nat} (hi : i < 32) : bt ((1 : Int32) <<< (nI v &&& 31)) i = decide (i = v) := by
  rw [b_shl v hv 1 hi, dm_b1 (i - v) (by omega)]
  by_cases e : i = v
  · subst e; simp
  · by_cases h : v ≤ i
    · have h2 : ¬ i - v = 0 := by omega
      simp [e, h2]
    · simp [e, h]
/-- the mask of the v below n with g v -/
def dm_k (g : Nat → Bool) : Nat → Int32
  | 0 => 0
  | v + 1 => if g v = true then dm_k g v ||| ((1 : Int32) <<< (nI v &&& 31)) else dm_k g v
theorem dm_bt (g : Nat → Bool) : ∀ n, n ≤ 32 → ∀ i, i < 32 → bt (dm_k g n) i = (decide (i < n) && g i) := by
  intro n
  induction n with
  | zero => intro _ i _; show bt 0 i = _; rw [b_0]; simp
  | succ v ih =>
    intro hn i hi
    have ih' := ih (by omega) i hi
    unfold dm_k
    by_cases h : g v = true
    · rw [if_pos h, b_or, ih', dm_1 v (by omega) hi]
      by_cases e : i = v
      · subst e; simp [h]
      · by_cases h2 : i < v
        · have h3 : i < v + 1 := by omega
          simp [e, h2, h3]
        · have h3 : ¬ i < v + 1 := by omega
          simp [e, h2, h3]
    · rw [if_neg h, ih']
      by_cases e : i = v
      · subst e; simp [h]
      · by_cases h2 : i < v
        · have h3 : i < v + 1 := by omega
          simp [h2, h3]
        · have h3 : ¬ i < v + 1 := by omega
          simp [h2, h3]
theorem dm_6 (g : Nat → Bool) {i : Nat} (hi : i < 32) : bt (dm_k g 6) i = (decide (i < 6) && g i) := dm_bt g 6 (by decide) i hi
theorem dm_cg {g h : Nat → Bool} : ∀ n, (∀ i, i < n → g i = h i) → dm_k g n = dm_k h n := by
  intro n
  induction n with
  | zero => intro _; rfl
  | succ v ih =>
    intro H
    unfold dm_k
    rw [ih (fun i hi => H i (by omega)), H v (by omega)]
theorem dm_inj {g h : Nat → Bool} (e : dm_k g 6 = dm_k h 6) : ∀ i, i < 6 → g i = h i := by
  intro i hi
  have h1 := dm_6 g (show i < 32 by omega)
  have h2 := dm_6 h (show i < 32 by omega)
  rw [e, h2] at h1
  simpa [hi] using h1.symm
theorem dm_and (g h : Nat → Bool) : dm_k g 6 &&& dm_k h 6 = dm_k (fun i => g i && h i) 6 := b_ext fun i hi => by
  rw [b_and, dm_6 g hi, dm_6 h hi, dm_6 _ hi]
  cases decide (i < 6) <;> simp
theorem dm_or (g h : Nat → Bool) : dm_k g 6 ||| dm_k h 6 = dm_k (fun i => g i || h i) 6 := b_ext fun i hi => by
  rw [b_or, dm_6 g hi, dm_6 h hi, dm_6 _ hi]
  cases decide (i < 6) <;> simp
theorem dm_set (g : Nat → Bool) {v : Nat} (hv : v < 6) : dm_k g 6 ||| ((1 : Int32) <<< (nI v &&& 31)) = dm_k (fun i => g i || decide (i = v)) 6 := b_ext fun i hi => by
  rw [b_or, dm_6 g hi, dm_1 v (by omega) hi, dm_6 _ hi]
  by_cases e : i = v
  · subst e; simp [hv]
  · simp [e]
theorem dm_clr (g : Nat → Bool) {v : Nat} (hv : v < 6) : dm_k g 6 &&& (((1 : Int32) <<< (nI v &&& 31)) ^^^ (-1)) = dm_k (fun i => g i && !decide (i = v)) 6 := b_ext fun i hi => by
  rw [b_and, b_xor, dm_6 g hi, dm_1 v (by omega) hi, dm_6 _ hi, b_m1 i hi]
  by_cases e : i = v
  · subst e; simp
  · simp [e]
theorem dm_63 : dm_k (fun _ => true) 6 = 63 := by decide +kernel
theorem dm_00 : dm_k (fun _ => false) 6 = 0 := by decide +kernel
theorem dm_a1 (x : Int32) : (x &&& 1) = 0 ↔ bt x 0 = false := by
  constructor
  · intro h
    have h1 : bt (x &&& 1) 0 = false := by rw [h, b_0]
    rw [b_and, dm_b1 0 (by decide)] at h1
    simpa using h1
  · intro h
    refine b_ext fun i hi => ?_
    rw [b_and, dm_b1 i hi, b_0]
    by_cases e : i = 0
    · subst e; simp [h]
    · simp [e]
theorem dm_tst (g : Nat → Bool) {v : Nat} (hv : v < 6) : (((dm_k g 6) >>> (nI v &&& 31)) &&& 1) = 0 ↔ g v = false := by
  rw [dm_a1, b_sshr v (by omega) _ (by decide), if_pos (by omega), Nat.add_zero, dm_6 g (by omega)]
  simp [hv]

/-! a long by its bits -/
def db_l (x : Int64) (i : Nat) : Bool := x.toBitVec.getLsbD i
theorem db_or (x y : Int64) (i : Nat) : db_l (x ||| y) i = (db_l x i || db_l y i) := by unfold db_l; rw [Int64.toBitVec_or, BitVec.getLsbD_or]
theorem db_and (x y : Int64) (i : Nat) : db_l (x &&& y) i = (db_l x i && db_l y i) := by unfold db_l; rw [Int64.toBitVec_and, BitVec.getLsbD_and]
theorem db_ext {x y : Int64} (h : ∀ i, i < 64 → db_l x i = db_l y i) : x = y := Int64.toBitVec_inj.mp (BitVec.eq_of_getLsbD_eq (fun i hi => h i hi))
theorem db_0 (i : Nat) : db_l 0 i = false := BitVec.getLsbD_zero
theorem db_big {x : Int64} {i : Nat} (h : 64 ≤ i) : db_l x i = false := BitVec.getLsbD_of_ge _ _ h
theorem db_1 : ∀ j, j < 64 → db_l 1 j = decide (j = 0) := by decide +kernel
theorem db_bit {j : Nat} (hj : j < 64) (i : Nat) : db_l ((1 : Int64) <<< ((nI j).toInt64 &&& 63)) i = decide (i = j) := by
  rcases Nat.lt_or_ge i 64 with hi | hi
  · rw [wb_c j hj]
    unfold db_l
    rw [Int64.toBitVec_shiftLeft, wb_tb, wb_sm j hj, BitVec.shiftLeft_eq', BitVec.toNat_ofNat, Nat.mod_eq_of_lt (show j < 2 ^ 64 by omega), BitVec.getLsbD_shiftLeft]
    show (decide (i < 64) && !decide (i < j) && db_l 1 (i - j)) = _
    rw [db_1 (i - j) (by omega)]
    by_cases e : i = j
    · subst e; simp [hi]
    · by_cases h : i < j
      · simp [e, h]
      · have h2 : ¬ i - j = 0 := by omega
        simp [e, h2]
  · rw [db_big hi]
    have : ¬ i = j := by omega
    simp [this]
theorem db_tst {j : Nat} (hj : j < 64) (x : Int64) : ((x >>> ((nI j).toInt64 &&& 63)) &&& 1) = 1 ↔ db_l x j = true := by
  have hb : db_l (x >>> ((nI j).toInt64 &&& 63)) 0 = db_l x j := by
    rw [wb_c j hj]
    unfold db_l
    rw [Int64.toBitVec_shiftRight, wb_tb, wb_sm j hj, BitVec.sshiftRight_eq', BitVec.toNat_ofNat, Nat.mod_eq_of_lt (show j < 2 ^ 64 by omega), BitVec.getLsbD_sshiftRight]
    simp [hj]
  constructor
  · intro h
    have h1 : db_l ((x >>> ((nI j).toInt64 &&& 63)) &&& 1) 0 = true := by rw [h]; decide +kernel
    rw [db_and, hb] at h1
    exact (Bool.and_eq_true_iff.mp h1).1
  · intro h
    refine db_ext fun i hi => ?_
    rw [db_and, db_1 i hi]
    by_cases e : i = 0
    · subst e; rw [hb, h]; simp
    · simp [e]

/-! counting -/
def dc_n (f : Nat → Bool) : Nat → Nat
  | 0 => 0
  | n + 1 => dc_n f n + (if f n = true then 1 else 0)
theorem dc_le (f : Nat → Bool) : ∀ n, dc_n f n ≤ n := by
  intro n
  induction n with
  | zero => exact Nat.le_refl 0
  | succ n ih => unfold dc_n; split <;> omega
theorem dc_mono {f g : Nat → Bool} : ∀ n, (∀ i, i < n → f i = true → g i = true) → dc_n f n ≤ dc_n g n := by
  intro n
  induction n with
  | zero => intro _; exact Nat.le_refl 0
  | succ n ih =>
    intro h
    have h1 := ih (fun i hi => h i (by omega))
    unfold dc_n
    by_cases e : f n = true
    · rw [if_pos e, if_pos (h n (by omega) e)]; omega
    · rw [if_neg e]; omega
theorem dc_lt {f g : Nat → Bool} : ∀ n, (∀ i, i < n → f i = true → g i = true) → (∃ i, i < n ∧ f i = false ∧ g i = true) → dc_n f n < dc_n g n := by
  intro n
  induction n with
  | zero => intro _ h; obtain ⟨i, hi, _⟩ := h; omega
  | succ n ih =>
    intro h hx
    obtain ⟨i, hi, hf, hg⟩ := hx
    unfold dc_n
    by_cases e : i = n
    · subst e
      have h1 := dc_mono i (fun j hj => h j (by omega))
      rw [hf, hg]
      simp
      omega
    · have h1 := ih (fun j hj => h j (by omega)) ⟨i, by omega, hf, hg⟩
      by_cases e2 : f n = true
      · rw [if_pos e2, if_pos (h n (by omega) e2)]; omega
      · rw [if_neg e2]; omega
theorem dc_pos {f : Nat → Bool} {n i : Nat} (hi : i < n) (h : f i = true) : 1 ≤ dc_n f n := by
  have h1 := dc_lt (f := fun _ => false) (g := f) n (fun j _ z => by simp at z) ⟨i, hi, rfl, h⟩
  omega

/-! the least set that holds a and is closed under edges from places below n that don't stop -/
def dr_R (n : Nat) (ed : Nat → Nat → Prop) (st : Nat → Bool) (a q : Nat) : Prop :=
  ∀ S : Nat → Prop, S a → (∀ x y, S x → x < n → st x = false → ed x y → S y) → S q
theorem dr_0 {n : Nat} {ed : Nat → Nat → Prop} {st : Nat → Bool} {a : Nat} : dr_R n ed st a a := fun _ h _ => h
theorem dr_s {n : Nat} {ed : Nat → Nat → Prop} {st : Nat → Bool} {a x y : Nat} (h : dr_R n ed st a x) (hx : x < n) (hs : st x = false) (he : ed x y) : dr_R n ed st a y :=
  fun S h0 hc => hc x y (h S h0 hc) hx hs he
noncomputable def dB_p (P : Prop) : Bool := @decide P (Classical.propDecidable P)
theorem dB_t {P : Prop} : dB_p P = true ↔ P := by unfold dB_p; exact @decide_eq_true_iff P (Classical.propDecidable P)
theorem dB_f {P : Prop} : dB_p P = false ↔ ¬ P := by unfold dB_p; exact @decide_eq_false_iff_not P (Classical.propDecidable P)
theorem dB_e {P : Prop} {b : Bool} (h : b = true ↔ P) : b = dB_p P := by
  rw [Bool.eq_iff_iff, dB_t]; exact h
end
section
/-! the sweeps of the search: 41 of them close the set -/
def dv_b : Option Nat → Int64
  | none => 0
  | some q => (1 : Int64) <<< ((nI q).toInt64 &&& 63)
def dv_1 (nx ox : Nat → Option Nat) (st : Nat → Bool) (s : Int64) (p : Nat) : Int64 :=
  if db_l s p = true ∧ st p = false then (s ||| dv_b (nx p)) ||| dv_b (ox p) else s
def dv_w (nx ox : Nat → Option Nat) (st : Nat → Bool) : Nat → Int64 → Int64
  | 0, s => s
  | p + 1, s => dv_1 nx ox st (dv_w nx ox st p s) p
def dv_k (nx ox : Nat → Option Nat) (st : Nat → Bool) (n : Nat) : Nat → Int64 → Int64
  | 0, s => s
  | k + 1, s => dv_w nx ox st n (dv_k nx ox st n k s)
def de_g (nx ox : Nat → Option Nat) (p q : Nat) : Prop := nx p = some q ∨ ox p = some q
section
variable {nx ox : Nat → Option Nat} {st : Nat → Bool} {n : Nat}
theorem dv_bl {o : Option Nat} (h : ∀ q, o = some q → q < 64) (i : Nat) : db_l (dv_b o) i = true ↔ o = some i := by
  cases o with
  | none =>
    show db_l 0 i = true ↔ _
    rw [db_0]; simp
  | some q =>
    show db_l ((1 : Int64) <<< ((nI q).toInt64 &&& 63)) i = true ↔ _
    rw [db_bit (h q rfl) i]
    simp [eq_comm]
theorem dv_1i {s : Int64} {p : Nat} (hb : ∀ q, de_g nx ox p q → q < 64) (q : Nat) :
    db_l (dv_1 nx ox st s p) q = true ↔ (db_l s q = true ∨ (db_l s p = true ∧ st p = false ∧ de_g nx ox p q)) := by
  unfold dv_1
  by_cases h : db_l s p = true ∧ st p = false
  · rw [if_pos h, db_or, db_or, Bool.or_eq_true_iff, Bool.or_eq_true_iff, dv_bl (fun q hq => hb q (Or.inl hq)), dv_bl (fun q hq => hb q (Or.inr hq))]
    constructor
    · rintro ((h1 | h1) | h1)
      · exact Or.inl h1
      · exact Or.inr ⟨h.1, h.2, Or.inl h1⟩
      · exact Or.inr ⟨h.1, h.2, Or.inr h1⟩
    · rintro (h1 | ⟨_, _, (h1 | h1)⟩)
      · exact Or.inl (Or.inl h1)
      · exact Or.inl (Or.inr h1)
      · exact Or.inr h1
  · rw [if_neg h]
    constructor
    · exact Or.inl
    · rintro (h1 | ⟨h1, h2, _⟩)
      · exact h1
      · exact absurd ⟨h1, h2⟩ h
theorem dv_wx {s : Int64} (q : Nat) : ∀ p, (∀ x, x < p → ∀ q, de_g nx ox x q → q < 64) → db_l s q = true → db_l (dv_w nx ox st p s) q = true := by
  intro p
  induction p with
  | zero => intro _ h; exact h
  | succ p ih =>
    intro hb h
    exact (dv_1i (hb p (by omega)) q).mpr (Or.inl (ih (fun x hx => hb x (by omega)) h))
theorem dv_wa {s : Int64} {x q : Nat} (hx : db_l s x = true) (hs : st x = false) (he : de_g nx ox x q) : ∀ p, (∀ x, x < p → ∀ q, de_g nx ox x q → q < 64) → x < p → db_l (dv_w nx ox st p s) q = true := by
  intro p
  induction p with
  | zero => intro _ h; omega
  | succ p ih =>
    intro hb h
    refine (dv_1i (hb p (by omega)) q).mpr ?_
    by_cases e : x = p
    · subst e
      exact Or.inr ⟨dv_wx x x (fun y hy => hb y (by omega)) hx, hs, he⟩
    · exact Or.inl (ih (fun y hy => hb y (by omega)) (by omega))
/-- what a sweep adds lies in every closed set -/
theorem dv_ws {s : Int64} {S : Nat → Prop} (hS : ∀ q, db_l s q = true → S q) (hn : ∀ x, x < n → ∀ q, de_g nx ox x q → q < 64) (hc : ∀ x y, S x → x < n → st x = false → de_g nx ox x y → S y) :
    ∀ p, p ≤ n → ∀ q, db_l (dv_w nx ox st p s) q = true → S q := by
  intro p
  induction p with
  | zero => intro _; exact hS
  | succ p ih =>
    intro hp q h
    rcases (dv_1i (hn p (by omega)) q).mp h with h1 | ⟨h1, h2, h3⟩
    · exact ih (by omega) q h1
    · exact hc p q (ih (by omega) p h1) (by omega) h2 h3
def dv_c (nx ox : Nat → Option Nat) (st : Nat → Bool) (n : Nat) (s : Int64) : Prop := ∀ x y, db_l s x = true → x < n → st x = false → de_g nx ox x y → db_l s y = true
theorem dv_P {a : Nat} {s : Int64} (hn : n ≤ 40) (ha : a ≤ n) (hb : ∀ x, x < n → ∀ q, de_g nx ox x q → q ≤ n) (hs : db_l s a = true) :
    ∀ k, dv_c nx ox st n (dv_k nx ox st n k s) ∨ k + 1 ≤ dc_n (fun i => db_l (dv_k nx ox st n k s) i) 41 := by
  have hb' : ∀ x, x < n → ∀ q, de_g nx ox x q → q < 64 := fun x hx q hq => by have := hb x hx q hq; omega
  intro k
  induction k with
  | zero => exact Or.inr (dc_pos (i := a) (by omega) hs)
  | succ k ih =>
    show dv_c nx ox st n (dv_w nx ox st n (dv_k nx ox st n k s)) ∨ k + 1 + 1 ≤ dc_n (fun i => db_l (dv_w nx ox st n (dv_k nx ox st n k s)) i) 41
    generalize dv_k nx ox st n k s = t at ih ⊢
    by_cases hc : dv_c nx ox st n t
    · left
      have h1 : ∀ q, db_l (dv_w nx ox st n t) q = true → db_l t q = true :=
        dv_ws (S := fun q => db_l t q = true) (fun q h => h) hb' hc n (Nat.le_refl n)
      intro x y hx hxn hst he
      exact dv_wx y n hb' (hc x y (h1 x hx) hxn hst he)
    · right
      rcases ih with h | h
      · exact absurd h hc
      · have : ∃ x y, db_l t x = true ∧ x < n ∧ st x = false ∧ de_g nx ox x y ∧ db_l t y = false := by
          apply Classical.byContradiction
          intro hno
          apply hc
          intro x y h1 h2 h3 h4
          cases e : db_l t y with
          | true => rfl
          | false => exact absurd ⟨x, y, h1, h2, h3, h4, e⟩ hno
        obtain ⟨x, y, h1, h2, h3, h4, h5⟩ := this
        have hy := hb x h2 y h4
        have := dc_lt (f := fun i => db_l t i) (g := fun i => db_l (dv_w nx ox st n t) i) 41 (fun i _ hi => dv_wx i n hb' hi) ⟨y, by omega, h5, dv_wa h1 h3 h4 n hb' h2⟩
        omega
theorem dv_ks {a : Nat} {s : Int64} {S : Nat → Prop} (hS : ∀ q, db_l s q = true → S q) (hn : ∀ x, x < n → ∀ q, de_g nx ox x q → q < 64) (hc : ∀ x y, S x → x < n → st x = false → de_g nx ox x y → S y) :
    ∀ k q, db_l (dv_k nx ox st n k s) q = true → S q := by
  intro k
  induction k with
  | zero => exact hS
  | succ k ih => exact dv_ws ih hn hc n (Nat.le_refl n)
theorem dv_kx {s : Int64} {q : Nat} (hn : ∀ x, x < n → ∀ q, de_g nx ox x q → q < 64) (h : db_l s q = true) : ∀ k, db_l (dv_k nx ox st n k s) q = true := by
  intro k
  induction k with
  | zero => exact h
  | succ k ih => exact dv_wx q n hn ih
/-- THE SEARCH: 41 sweeps from the place a hold just what is reached from a -/
theorem dv_main {a : Nat} (hn : n ≤ 40) (ha : a ≤ n) (hb : ∀ x, x < n → ∀ q, de_g nx ox x q → q ≤ n) (q : Nat) :
    db_l (dv_k nx ox st n 41 (dv_b (some a))) q = true ↔ dr_R n (de_g nx ox) st a q := by
  have hb' : ∀ x, x < n → ∀ q, de_g nx ox x q → q < 64 := fun x hx q hq => by have := hb x hx q hq; omega
  have h0 : ∀ i, db_l (dv_b (some a)) i = true ↔ some a = some i := fun i => dv_bl (fun q hq => by cases hq; omega) i
  have ha1 : db_l (dv_b (some a)) a = true := (h0 a).mpr rfl
  constructor
  · intro h S hS hc
    exact dv_ks (a := a) (S := S) (fun q hq => by have := (h0 q).mp hq; cases this; exact hS) hb' hc 41 q h
  · intro h
    have hc : dv_c nx ox st n (dv_k nx ox st n 41 (dv_b (some a))) := by
      rcases dv_P (st := st) hn ha hb ha1 41 with h | h
      · exact h
      · have := dc_le (fun i => db_l (dv_k nx ox st n 41 (dv_b (some a))) i) 41
        omega
    exact h (fun q => db_l (dv_k nx ox st n 41 (dv_b (some a))) q = true) (dv_kx hb' ha1 41) hc
end
end
section
/-! the passes backward: a matrix of places and variables -/
section
variable {nx ox : Nat → Option Nat} {n : Nat} {K V : Nat → Nat} {w : Nat → Nat → Bool}
def dw_s (n : Nat) (nx ox : Nat → Option Nat) (w : Nat → Nat → Bool) (p v : Nat) : Bool :=
  w ((nx p).getD n) v || (match ox p with | none => false | some o => w o v)
def dw_G (n : Nat) (nx ox : Nat → Option Nat) (K V : Nat → Nat) (w : Nat → Nat → Bool) (p v : Nat) : Bool :=
  if K p = 0 ∧ v = V p then false else if K p = 1 ∧ v = V p then true else dw_s n nx ox w p v
def dw_u (w : Nat → Nat → Bool) (p : Nat) (g : Nat → Bool) : Nat → Nat → Bool := fun q => if q = p then g else w q
def ds_t (K V : Nat → Nat) (v : Nat) : Nat → Bool := fun p => decide (K p = 0 ∧ V p = v)
/-- v is wanted at p: a use of v is reached from p, not through sets of v -/
def dw_W (n : Nat) (nx ox : Nat → Option Nat) (K V : Nat → Nat) (v p : Nat) : Prop :=
  ∃ q, q < n ∧ dr_R n (de_g nx ox) (ds_t K V v) p q ∧ K q = 1 ∧ V q = v
def dw_le (w w' : Nat → Nat → Bool) : Prop := ∀ q v, w q v = true → w' q v = true
/-- a state of the passes -/
def dw_I (n : Nat) (nx ox : Nat → Option Nat) (K V : Nat → Nat) (w : Nat → Nat → Bool) : Prop :=
  (∀ v, w n v = false) ∧ (∀ p v, p < n → w p v = true → dw_G n nx ox K V w p v = true) ∧ (∀ p v, p < n → w p v = true → dw_W n nx ox K V v p)
theorem dw_sm {w w' : Nat → Nat → Bool} (h : dw_le w w') {p v : Nat} (hs : dw_s n nx ox w p v = true) : dw_s n nx ox w' p v = true := by
  unfold dw_s at hs ⊢
  rw [Bool.or_eq_true_iff] at hs ⊢
  rcases hs with h1 | h1
  · exact Or.inl (h _ _ h1)
  · right
    cases e : ox p with
    | none => rw [e] at h1; exact h1
    | some o => rw [e] at h1; exact h _ _ h1
theorem dw_Gm {w w' : Nat → Nat → Bool} (h : dw_le w w') {p v : Nat} (hs : dw_G n nx ox K V w p v = true) : dw_G n nx ox K V w' p v = true := by
  unfold dw_G at hs ⊢
  by_cases h1 : K p = 0 ∧ v = V p
  · rw [if_pos h1] at hs; exact absurd hs (by decide)
  · rw [if_neg h1] at hs ⊢
    by_cases h2 : K p = 1 ∧ v = V p
    · rw [if_pos h2]
    · rw [if_neg h2] at hs ⊢
      exact dw_sm h hs
theorem dw_se {p v : Nat} (hs : dw_s n nx ox w p v = true) (hn : ∀ v, w n v = false) : ∃ q, de_g nx ox p q ∧ w q v = true := by
  unfold dw_s at hs
  rw [Bool.or_eq_true_iff] at hs
  rcases hs with h1 | h1
  · cases e : nx p with
    | none => rw [e] at h1; rw [show (none : Option Nat).getD n = n from rfl, hn] at h1; exact absurd h1 (by decide)
    | some q => rw [e] at h1; exact ⟨q, Or.inl e, h1⟩
  · cases e : ox p with
    | none => rw [e] at h1; exact absurd h1 Bool.false_ne_true
    | some o => rw [e] at h1; exact ⟨o, Or.inr e, h1⟩
theorem dw_es {p q v : Nat} (he : de_g nx ox p q) (h : w q v = true) : dw_s n nx ox w p v = true := by
  unfold dw_s
  rw [Bool.or_eq_true_iff]
  rcases he with e | e
  · left; rw [e]; exact h
  · right; rw [e]; exact h
theorem dw_Wn {v p : Nat} (hp : n ≤ p) : ¬ dw_W n nx ox K V v p := by
  rintro ⟨q, hq, hR, _⟩
  have := hR (fun x => x = p) rfl (fun x y hx hxn => by omega)
  omega
theorem dw_Ws {v p q : Nat} (hp : p < n) (hk : ¬ (K p = 0 ∧ v = V p)) (he : de_g nx ox p q) (h : dw_W n nx ox K V v q) : dw_W n nx ox K V v p := by
  obtain ⟨x, hx, hR, h1⟩ := h
  refine ⟨x, hx, ?_, h1⟩
  intro S hS hc
  refine hR S (hc p q hS hp ?_ he) hc
  unfold ds_t
  rw [decide_eq_false_iff_not]
  intro z
  exact hk ⟨z.1, z.2.symm⟩
theorem dw_I0 : dw_I n nx ox K V (fun _ _ => false) :=
  ⟨fun _ => rfl, fun _ _ _ h => absurd h Bool.false_ne_true, fun _ _ _ h => absurd h Bool.false_ne_true⟩
theorem dw_GW {p v : Nat} (hI : dw_I n nx ox K V w) (hb : ∀ x, x < n → ∀ q, de_g nx ox x q → q ≤ n) (hp : p < n) (h : dw_G n nx ox K V w p v = true) : dw_W n nx ox K V v p := by
  unfold dw_G at h
  by_cases h1 : K p = 0 ∧ v = V p
  · rw [if_pos h1] at h; exact absurd h (by decide)
  · rw [if_neg h1] at h
    by_cases h2 : K p = 1 ∧ v = V p
    · exact ⟨p, hp, dr_0, h2.1, h2.2.symm⟩
    · rw [if_neg h2] at h
      obtain ⟨q, hq, hw⟩ := dw_se h hI.1
      have hqn := hb p hp q hq
      have hq2 : q < n := by
        rcases Nat.lt_or_ge q n with z | z
        · exact z
        · have : q = n := by omega
          subst this
          rw [hI.1] at hw
          exact absurd hw (by decide)
      exact dw_Ws hp h1 hq (hI.2.2 q v hq2 hw)
/-- one place anew -/
theorem dw_lu {p : Nat} (hI : dw_I n nx ox K V w) (hp : p < n) : dw_le w (dw_u w p (dw_G n nx ox K V w p)) := by
  intro q v h
  unfold dw_u
  by_cases e : q = p
  · rw [if_pos e]; subst e; exact hI.2.1 q v hp h
  · rw [if_neg e]; exact h
theorem dw_st {p : Nat} (hI : dw_I n nx ox K V w) (hb : ∀ x, x < n → ∀ q, de_g nx ox x q → q ≤ n) (hp : p < n) :
    dw_I n nx ox K V (dw_u w p (dw_G n nx ox K V w p)) := by
  have hle := dw_lu hI hp
  refine ⟨fun v => ?_, fun q v hq h => ?_, fun q v hq h => ?_⟩
  · unfold dw_u
    rw [if_neg (by omega)]
    exact hI.1 v
  · apply dw_Gm hle
    unfold dw_u at h
    by_cases e : q = p
    · rw [if_pos e] at h; subst e; exact h
    · rw [if_neg e] at h; exact hI.2.1 q v hq h
  · unfold dw_u at h
    by_cases e : q = p
    · rw [if_pos e] at h; subst e; exact dw_GW hI hb hq h
    · rw [if_neg e] at h; exact hI.2.2 q v hq h
def dw_c (w : Nat → Nat → Bool) : Nat := dc_n (fun i => w (i / 6) (i % 6)) 240
theorem dw_c1 {p v : Nat} (hI : dw_I n nx ox K V w) (hn : n ≤ 40) (hp : p < n) (hv : v < 6) (hd : dw_G n nx ox K V w p v ≠ w p v) :
    dw_c w < dw_c (dw_u w p (dw_G n nx ox K V w p)) := by
  have hle := dw_lu hI hp
  unfold dw_c
  refine dc_lt 240 (fun i _ h => hle _ _ h) ⟨p * 6 + v, by omega, ?_, ?_⟩
  · show w ((p * 6 + v) / 6) ((p * 6 + v) % 6) = false
    rw [show (p * 6 + v) / 6 = p by omega, show (p * 6 + v) % 6 = v by omega]
    cases e : w p v with
    | false => rfl
    | true => rw [hI.2.1 p v hp e, e] at hd; exact absurd rfl hd
  · show dw_u w p (dw_G n nx ox K V w p) ((p * 6 + v) / 6) ((p * 6 + v) % 6) = true
    rw [show (p * 6 + v) / 6 = p by omega, show (p * 6 + v) % 6 = v by omega]
    unfold dw_u
    rw [if_pos rfl]
    cases e : w p v with
    | true => exact hI.2.1 p v hp e
    | false =>
      rw [e] at hd
      cases e2 : dw_G n nx ox K V w p v with
      | true => rfl
      | false => exact absurd e2 hd
theorem dw_cm {w w' : Nat → Nat → Bool} (h : dw_le w w') : dw_c w ≤ dw_c w' := dc_mono 240 (fun i _ h1 => h _ _ h1)
theorem dw_cb (w : Nat → Nat → Bool) : dw_c w ≤ 240 := dc_le _ 240
/-- where nothing changes any more, what is wanted stands there -/
theorem dw_fix (hI : dw_I n nx ox K V w) (hf : ∀ p, p < n → ∀ v, v < 6 → dw_G n nx ox K V w p v = w p v) {p v : Nat} (hp : p ≤ n) (hv : v < 6) : w p v = dB_p (dw_W n nx ox K V v p) := by
  apply dB_e
  constructor
  · intro h
    rcases Nat.lt_or_ge p n with z | z
    · exact hI.2.2 p v z h
    · have : p = n := by omega
      subst this
      rw [hI.1] at h
      exact absurd h (by decide)
  · rintro ⟨q, hq, hR, h1, h2⟩
    have hG : dw_G n nx ox K V w q v = true := by
      unfold dw_G
      rw [if_neg (by omega), if_pos ⟨h1, h2.symm⟩]
    rw [hf q hq v hv] at hG
    refine hR (fun x => w x v = true → w p v = true) (fun h => h) (fun x y hx hxn hs he hw => hx ?_) hG
    rw [← hf x hxn v hv]
    unfold dw_G
    have hs' : ¬ (K x = 0 ∧ v = V x) := by
      unfold ds_t at hs
      rw [decide_eq_false_iff_not] at hs
      exact fun z => hs ⟨z.1, z.2.symm⟩
    rw [if_neg hs']
    by_cases h2 : K x = 1 ∧ v = V x
    · rw [if_pos h2]
    · rw [if_neg h2]; exact dw_es he hw
end
end
section
/-! the structure: the stack before each place, what closes, what its ELSE is -/
abbrev dq_o (k : Nat) : Prop := k = 2 ∨ k = 4 ∨ k = 5
def ds_S (K : Nat → Nat) : Nat → List Nat
  | 0 => []
  | p + 1 => if dq_o (K p) then p :: ds_S K p else if K p = 6 then (ds_S K p).tail else ds_S K p
def ds_T (K : Nat → Nat) (p : Nat) : Nat := (ds_S K p).headD 0
def ds_l (K : Nat → Nat) : List Nat → Option Nat
  | [] => none
  | a :: s => if K a = 2 then ds_l K s else some a
def ds_O (K : Nat → Nat) (p : Nat) : Nat := if K p = 7 ∨ K p = 8 then (ds_l K (ds_S K p)).getD 0 else ds_T K p
def dn_u (f : Nat → Nat) (k x : Nat) : Nat → Nat := fun j => if j = k then x else f j
theorem dn_s {f : Nat → Nat} {k x : Nat} : dn_u f k x k = x := if_pos rfl
theorem dn_n {f : Nat → Nat} {k x j : Nat} (h : j ≠ k) : dn_u f k x j = f j := if_neg h
def ds_E (K : Nat → Nat) : Nat → Nat → Nat
  | 0 => fun _ => 0
  | p + 1 => if K p = 6 then dn_u (ds_E K p) (ds_T K p) p else ds_E K p
def ds_L (K : Nat → Nat) : Nat → Nat → Nat
  | 0 => fun _ => 0
  | p + 1 => if K p = 3 then dn_u (ds_L K p) (ds_T K p) p else ds_L K p
/-- the token at p is rightly placed -/
def ds_1 (K : Nat → Nat) (p : Nat) : Prop :=
  (K p = 3 → ds_S K p ≠ [] ∧ K (ds_T K p) = 2 ∧ ds_L K p (ds_T K p) = 0) ∧ (K p = 6 → ds_S K p ≠ []) ∧ (K p = 7 ∨ K p = 8 → ds_l K (ds_S K p) ≠ none)
def ds_ok (K : Nat → Nat) (p : Nat) : Prop := ∀ q, q < p → ds_1 K q
def ds_so (K : Nat → Nat) (n : Nat) : Prop := ds_ok K n ∧ ds_S K n = []
theorem ds_lm {K : Nat → Nat} {b : Nat} : ∀ {s : List Nat}, ds_l K s = some b → b ∈ s ∧ K b ≠ 2 := by
  intro s
  induction s with
  | nil => intro h; exact absurd h (by simp [ds_l])
  | cons a s ih =>
    intro h
    unfold ds_l at h
    by_cases e : K a = 2
    · rw [if_pos e] at h
      exact ⟨List.mem_cons_of_mem a (ih h).1, (ih h).2⟩
    · rw [if_neg e] at h
      cases h
      exact ⟨List.mem_cons_self, e⟩
def ds_J (K : Nat → Nat) (p : Nat) (S : List Nat) (E L : Nat → Nat) : Prop :=
  (∀ a, a ∈ S → a < p ∧ dq_o (K a) ∧ E a = 0) ∧
  (∀ q, q < p → dq_o (K q) → q ∉ S → q < E q ∧ E q < p ∧ K (E q) = 6 ∧ ds_O K (E q) = q) ∧
  S.Pairwise (fun a b => b < a) ∧
  (∀ a, a < p → dq_o (K a) → ∀ q, a < q → q < E a → dq_o (K q) → q ∉ S ∧ E q < E a) ∧
  (∀ e, e < p → K e = 6 → ds_O K e < e ∧ dq_o (K (ds_O K e)) ∧ E (ds_O K e) = e) ∧
  (∀ e, e < p → K e = 3 → ds_O K e < e ∧ K (ds_O K e) = 2 ∧ L (ds_O K e) = e ∧ (ds_O K e ∈ S ∨ e < E (ds_O K e)) ∧ ∀ q, ds_O K e < q → q < e → dq_o (K q) → q ∉ S ∧ E q < e) ∧
  (∀ e, e < p → (K e = 7 ∨ K e = 8) → ds_O K e < e ∧ (K (ds_O K e) = 4 ∨ K (ds_O K e) = 5) ∧ (ds_O K e ∈ S ∨ e < E (ds_O K e))) ∧
  (∀ q, L q ≠ 0 → q < L q ∧ L q < p ∧ K (L q) = 3 ∧ ds_O K (L q) = q) ∧
  (∀ q, E q ≠ 0 → q < E q ∧ E q < p)
theorem ds_J0 (K : Nat → Nat) : ds_J K 0 [] (fun _ => 0) (fun _ => 0) :=
  ⟨fun a h => absurd h (by simp), fun q h => absurd h (by omega), List.Pairwise.nil, fun a h => absurd h (by omega), fun a h => absurd h (by omega), fun a h => absurd h (by omega), fun a h => absurd h (by omega), fun q h => absurd rfl h, fun q h => absurd rfl h⟩
section
variable {K : Nat → Nat} {p : Nat} {S : List Nat} {E L : Nat → Nat}
theorem ds_JA (h : ds_J K p S E L) (hk : dq_o (K p)) : ds_J K (p + 1) (p :: S) E L := by
  obtain ⟨j1, j2, j3, j5, j6, j7, j8, j9, j0⟩ := h
  have ep : E p = 0 := by
    apply Classical.byContradiction
    intro z
    have := j0 p z
    omega
  refine ⟨fun a ha => ?_, fun q hq ho hn => ?_, ?_, fun a ha ho q h1 h2 h3 => ?_, fun e he h6 => ?_, fun e he h3 => ?_, fun e he h7 => ?_, fun q hq => ?_, fun q hq => ?_⟩
  · rcases List.mem_cons.mp ha with z | z
    · subst z; exact ⟨by omega, hk, ep⟩
    · have := j1 a z
      exact ⟨by omega, this.2⟩
  · have n1 : q ≠ p := fun z => hn (by rw [z]; exact List.mem_cons_self)
    have n2 : q ∉ S := fun z => hn (List.mem_cons_of_mem p z)
    have := j2 q (by omega) ho n2
    exact ⟨this.1, by omega, this.2.2⟩
  · exact List.Pairwise.cons (fun a ha => (j1 a ha).1) j3
  · have ne : E a ≠ 0 := by omega
    have na := j0 a ne
    have := j5 a (by omega) ho q h1 h2 h3
    refine ⟨fun z => ?_, this.2⟩
    rcases List.mem_cons.mp z with z | z
    · omega
    · exact this.1 z
  · have ne : e ≠ p := by intro z; subst z; omega
    exact j6 e (by omega) h6
  · have ne : e ≠ p := by intro z; subst z; omega
    have := j7 e (by omega) h3
    refine ⟨this.1, this.2.1, this.2.2.1, this.2.2.2.1.imp (List.mem_cons_of_mem p) id, fun q h1 h2 h4 => ⟨fun z => ?_, (this.2.2.2.2 q h1 h2 h4).2⟩⟩
    rcases List.mem_cons.mp z with z | z
    · omega
    · exact (this.2.2.2.2 q h1 h2 h4).1 z
  · have ne : e ≠ p := by intro z; subst z; omega
    have := j8 e (by omega) h7
    exact ⟨this.1, this.2.1, this.2.2.imp (List.mem_cons_of_mem p) id⟩
  · have := j9 q hq
    exact ⟨this.1, by omega, this.2.2⟩
  · have := j0 q hq
    exact ⟨this.1, by omega⟩
theorem ds_JB {a : Nat} {s : List Nat} (h : ds_J K p (a :: s) E L) (hk : K p = 6) (hO : ds_O K p = a) : ds_J K (p + 1) s (dn_u E a p) L := by
  obtain ⟨j1, j2, j3, j5, j6, j7, j8, j9, j0⟩ := h
  obtain ⟨a1, a2, a3⟩ := j1 a List.mem_cons_self
  have s1 : ∀ b, b ∈ s → b < a := (List.pairwise_cons.mp j3).1
  have nS : ∀ q, q ∉ s → q ≠ a → q ∉ a :: s := fun q h1 h2 z => by
    rcases List.mem_cons.mp z with z | z
    · exact h2 z
    · exact h1 z
  refine ⟨fun b hb => ?_, fun q hq ho hn => ?_, (List.pairwise_cons.mp j3).2, fun b hb ho q h1 h2 h3 => ?_, fun e he h6 => ?_, fun e he h3 => ?_, fun e he h7 => ?_, fun q hq => ?_, fun q hq => ?_⟩
  · have := j1 b (List.mem_cons_of_mem a hb)
    have lt := s1 b hb
    exact ⟨by omega, this.2.1, by rw [dn_n (by omega)]; exact this.2.2⟩
  · by_cases e : q = a
    · subst e; rw [dn_s]; exact ⟨a1, by omega, hk, hO⟩
    · have nq : q ≠ p := by intro z; subst z; omega
      have := j2 q (by omega) ho (nS q hn e)
      rw [dn_n e]
      exact ⟨this.1, by omega, this.2.2⟩
  · by_cases e : b = a
    · subst e
      rw [dn_s] at h2 ⊢
      have nq : q ≠ b := by omega
      have n1 : q ∉ s := fun z => by have := s1 q z; omega
      rw [dn_n nq]
      exact ⟨n1, (j2 q h2 h3 (nS q n1 nq)).2.1⟩
    · have nb : b ≠ p := by intro z; subst z; omega
      rw [dn_n e] at h2 ⊢
      have := j5 b (by omega) ho q h1 h2 h3
      have nq : q ≠ a := fun z => this.1 (by rw [z]; exact List.mem_cons_self)
      rw [dn_n nq]
      exact ⟨fun z => this.1 (List.mem_cons_of_mem a z), this.2⟩
  · by_cases e2 : e = p
    · subst e2; rw [hO, dn_s]; exact ⟨a1, a2, rfl⟩
    · have := j6 e (by omega) h6
      have ne : ds_O K e ≠ a := by intro z; rw [z] at this; omega
      rw [dn_n ne]
      exact this
  · have e2 : e ≠ p := by intro z; subst z; omega
    have := j7 e (by omega) h3
    refine ⟨this.1, this.2.1, this.2.2.1, ?_, fun q h1 h2 h4 => ?_⟩
    · by_cases e3 : ds_O K e = a
      · right; rw [e3, dn_s]; omega
      · rw [dn_n e3]
        rcases this.2.2.2.1 with z | z
        · rcases List.mem_cons.mp z with z | z
          · exact absurd z e3
          · exact Or.inl z
        · exact Or.inr z
    · have := this.2.2.2.2 q h1 h2 h4
      have nq : q ≠ a := fun z => this.1 (by rw [z]; exact List.mem_cons_self)
      rw [dn_n nq]
      exact ⟨fun z => this.1 (List.mem_cons_of_mem a z), this.2⟩
  · have e2 : e ≠ p := by intro z; subst z; omega
    have := j8 e (by omega) h7
    refine ⟨this.1, this.2.1, ?_⟩
    by_cases e3 : ds_O K e = a
    · right; rw [e3, dn_s]; omega
    · rw [dn_n e3]
      rcases this.2.2 with z | z
      · rcases List.mem_cons.mp z with z | z
        · exact absurd z e3
        · exact Or.inl z
      · exact Or.inr z
  · have := j9 q hq
    exact ⟨this.1, by omega, this.2.2⟩
  · by_cases e : q = a
    · subst e; rw [dn_s]; exact ⟨a1, by omega⟩
    · rw [dn_n e] at hq ⊢
      have := j0 q hq
      exact ⟨this.1, by omega⟩
theorem ds_JC {a : Nat} {s : List Nat} (h : ds_J K p (a :: s) E L) (hk : K p = 3) (hO : ds_O K p = a) (h2 : K a = 2) (hL : L a = 0) : ds_J K (p + 1) (a :: s) E (dn_u L a p) := by
  obtain ⟨j1, j2, j3, j5, j6, j7, j8, j9, j0⟩ := h
  obtain ⟨a1, a2, a3⟩ := j1 a List.mem_cons_self
  have s1 : ∀ b, b ∈ s → b < a := (List.pairwise_cons.mp j3).1
  refine ⟨fun b hb => ?_, fun q hq ho hn => ?_, j3, fun b hb ho q h1 h2 h3 => ?_, fun e he h6 => ?_, fun e he h3 => ?_, fun e he h7 => ?_, fun q hq => ?_, fun q hq => ?_⟩
  · have := j1 b hb
    exact ⟨by omega, this.2⟩
  · have nq : q ≠ p := by intro z; subst z; omega
    have := j2 q (by omega) ho hn
    exact ⟨this.1, by omega, this.2.2⟩
  · have nb : b ≠ p := by intro z; subst z; omega
    exact j5 b (by omega) ho q h1 h2 h3
  · have e2 : e ≠ p := by intro z; subst z; omega
    exact j6 e (by omega) h6
  · by_cases e2 : e = p
    · subst e2
      rw [hO, dn_s]
      refine ⟨a1, h2, rfl, Or.inl List.mem_cons_self, fun q h1 h2 h4 => ?_⟩
      have n1 : q ∉ a :: s := fun z => by
        rcases List.mem_cons.mp z with z | z
        · omega
        · have := s1 q z; omega
      exact ⟨n1, (j2 q h2 h4 n1).2.1⟩
    · have := j7 e (by omega) h3
      have ne : ds_O K e ≠ a := by intro z; rw [z] at this; omega
      rw [dn_n ne]
      exact this
  · have e2 : e ≠ p := by intro z; subst z; omega
    exact j8 e (by omega) h7
  · by_cases e : q = a
    · subst e; rw [dn_s]; exact ⟨a1, by omega, hk, hO⟩
    · rw [dn_n e] at hq ⊢
      have := j9 q hq
      exact ⟨this.1, by omega, this.2.2⟩
  · have := j0 q hq
    exact ⟨this.1, by omega⟩
theorem ds_JD (h : ds_J K p S E L) (h2 : ¬ dq_o (K p)) (h3 : K p ≠ 3) (h6 : K p ≠ 6) (h7 : K p = 7 ∨ K p = 8 → ds_O K p ∈ S ∧ K (ds_O K p) ≠ 2) : ds_J K (p + 1) S E L := by
  obtain ⟨j1, j2, j3, j5, j6, j7, j8, j9, j0⟩ := h
  refine ⟨fun b hb => ?_, fun q hq ho hn => ?_, j3, fun b hb ho q h1 h2 h3 => ?_, fun e he h6 => ?_, fun e he h3 => ?_, fun e he h8 => ?_, fun q hq => ?_, fun q hq => ?_⟩
  · have := j1 b hb
    exact ⟨by omega, this.2⟩
  · have nq : q ≠ p := by intro z; subst z; exact h2 ho
    have := j2 q (by omega) ho hn
    exact ⟨this.1, by omega, this.2.2⟩
  · have nb : b ≠ p := by intro z; subst z; exact h2 ho
    exact j5 b (by omega) ho q h1 h2 h3
  · have e2 : e ≠ p := by intro z; subst z; omega
    exact j6 e (by omega) h6
  · have e2 : e ≠ p := by intro z; subst z; omega
    exact j7 e (by omega) h3
  · by_cases e2 : e = p
    · subst e2
      have m := h7 h8
      have := j1 _ m.1
      exact ⟨this.1, by have := this.2.1; have := m.2; omega, Or.inl m.1⟩
    · exact j8 e (by omega) h8
  · have := j9 q hq
    exact ⟨this.1, by omega, this.2.2⟩
  · have := j0 q hq
    exact ⟨this.1, by omega⟩
end
theorem ds_Jp (K : Nat → Nat) : ∀ p, ds_ok K p → ds_J K p (ds_S K p) (ds_E K p) (ds_L K p) := by
  intro p
  induction p with
  | zero => intro _; exact ds_J0 K
  | succ p ih =>
    intro hok
    have IH := ih (fun q hq => hok q (by omega))
    obtain ⟨k3, k6, k7⟩ := hok p (by omega)
    by_cases h2 : dq_o (K p)
    · have e1 : ds_S K (p + 1) = p :: ds_S K p := if_pos h2
      have e2 : ds_E K (p + 1) = ds_E K p := if_neg (by omega)
      have e3 : ds_L K (p + 1) = ds_L K p := if_neg (by omega)
      rw [e1, e2, e3]
      exact ds_JA IH h2
    · by_cases h6 : K p = 6
      · have e1 : ds_S K (p + 1) = (ds_S K p).tail := (if_neg h2).trans (if_pos h6)
        have e2 : ds_E K (p + 1) = dn_u (ds_E K p) (ds_T K p) p := if_pos h6
        have e3 : ds_L K (p + 1) = ds_L K p := if_neg (by omega)
        have eO : ds_O K p = ds_T K p := if_neg (by omega)
        have hne := k6 h6
        rw [e1, e2, e3]
        unfold ds_T at eO ⊢
        cases hS : ds_S K p with
        | nil => exact absurd hS hne
        | cons a s =>
          rw [hS] at IH eO
          exact ds_JB IH h6 eO
      · have e1 : ds_S K (p + 1) = ds_S K p := (if_neg h2).trans (if_neg h6)
        have e2 : ds_E K (p + 1) = ds_E K p := if_neg h6
        rw [e1, e2]
        by_cases h3 : K p = 3
        · have e3 : ds_L K (p + 1) = dn_u (ds_L K p) (ds_T K p) p := if_pos h3
          have eO : ds_O K p = ds_T K p := if_neg (by omega)
          obtain ⟨hne, hk2, hL⟩ := k3 h3
          rw [e3]
          unfold ds_T at eO hk2 hL ⊢
          cases hS : ds_S K p with
          | nil => exact absurd hS hne
          | cons a s =>
            rw [hS] at IH eO hk2 hL
            exact ds_JC IH h3 eO hk2 hL
        · have e3 : ds_L K (p + 1) = ds_L K p := if_neg h3
          rw [e3]
          refine ds_JD IH h2 h3 h6 (fun h7 => ?_)
          have hl := k7 h7
          have eO : ds_O K p = (ds_l K (ds_S K p)).getD 0 := if_pos h7
          cases hq : ds_l K (ds_S K p) with
          | none => exact absurd hq hl
          | some b =>
            rw [eO, hq]
            exact ds_lm hq
/-- what holds of a sound program -/
def dz_W (n : Nat) (K O E L : Nat → Nat) : Prop :=
  (∀ q, q < n → dq_o (K q) → q < E q ∧ E q < n ∧ K (E q) = 6 ∧ O (E q) = q) ∧
  (∀ e, e < n → K e = 6 → O e < e ∧ dq_o (K (O e)) ∧ E (O e) = e) ∧
  (∀ a q, a < n → dq_o (K a) → a < q → q < E a → dq_o (K q) → E q < E a) ∧
  (∀ e, e < n → K e = 3 → O e < e ∧ K (O e) = 2 ∧ L (O e) = e ∧ e < E (O e) ∧ ∀ q, O e < q → q < e → dq_o (K q) → E q < e) ∧
  (∀ q, L q ≠ 0 → q < L q ∧ L q < n ∧ K (L q) = 3 ∧ O (L q) = q) ∧
  (∀ e, e < n → (K e = 7 ∨ K e = 8) → O e < e ∧ (K (O e) = 4 ∨ K (O e) = 5) ∧ e < E (O e))
theorem ds_so_W {K : Nat → Nat} {n : Nat} (h : ds_so K n) : dz_W n K (ds_O K) (ds_E K n) (ds_L K n) := by
  have hJ := ds_Jp K n h.1
  rw [h.2] at hJ
  obtain ⟨j1, j2, j3, j5, j6, j7, j8, j9, j0⟩ := hJ
  have nn : ∀ q, q ∉ ([] : List Nat) := fun q => by simp
  refine ⟨fun q hq ho => j2 q hq ho (nn q), j6, fun a q ha ho h1 h2 h3 => (j5 a ha ho q h1 h2 h3).2, fun e he h3 => ?_, j9, fun e he h7 => ?_⟩
  · have := j7 e he h3
    exact ⟨this.1, this.2.1, this.2.2.1, this.2.2.2.1.elim (fun z => absurd z (nn _)) id, fun q h1 h2 h4 => (this.2.2.2.2 q h1 h2 h4).2⟩
  · have := j8 e he h7
    exact ⟨this.1, this.2.1, this.2.2.elim (fun z => absurd z (nn _)) id⟩
/-- what comes next, and what may come next instead -/
def dz_n (K O E : Nat → Nat) (p : Nat) : Option Nat :=
  if K p = 3 then some (E (O p)) else if K p = 6 ∧ K (O p) ≠ 2 then some (O p) else if K p = 7 then some (E (O p) + 1) else if K p = 8 then some (O p) else if K p = 9 then none else some (p + 1)
def dz_x (K E L : Nat → Nat) (p : Nat) : Option Nat :=
  if K p = 2 then some (if L p = 0 then E p else L p + 1) else if K p = 4 then some (E p + 1) else none
theorem dz_b {n : Nat} {K O E L : Nat → Nat} (h : dz_W n K O E L) : ∀ x, x < n → ∀ q, de_g (dz_n K O E) (dz_x K E L) x q → q ≤ n := by
  obtain ⟨w1, w2, w3, w4, w5, w6⟩ := h
  intro x hx q hq
  rcases hq with e | e
  · unfold dz_n at e
    by_cases h3 : K x = 3
    · rw [if_pos h3] at e
      have a := w4 x hx h3
      have b := w1 (O x) (by omega) (by omega)
      cases e
      omega
    · rw [if_neg h3] at e
      by_cases h6 : K x = 6 ∧ K (O x) ≠ 2
      · rw [if_pos h6] at e
        have a := w2 x hx h6.1
        cases e
        omega
      · rw [if_neg h6] at e
        by_cases h7 : K x = 7
        · rw [if_pos h7] at e
          have a := w6 x hx (Or.inl h7)
          have b := w1 (O x) (by omega) (by omega)
          cases e
          omega
        · rw [if_neg h7] at e
          by_cases h8 : K x = 8
          · rw [if_pos h8] at e
            have a := w6 x hx (Or.inr h8)
            cases e
            omega
          · rw [if_neg h8] at e
            by_cases h9 : K x = 9
            · rw [if_pos h9] at e; cases e
            · rw [if_neg h9] at e
              cases e
              omega
  · unfold dz_x at e
    by_cases h2 : K x = 2
    · rw [if_pos h2] at e
      have b := w1 x hx (by omega)
      by_cases hl : L x = 0
      · rw [if_pos hl] at e
        cases e
        omega
      · rw [if_neg hl] at e
        have a := w5 x hl
        cases e
        omega
    · rw [if_neg h2] at e
      by_cases h4 : K x = 4
      · rw [if_pos h4] at e
        have b := w1 x hx (by omega)
        cases e
        omega
      · rw [if_neg h4] at e; cases e
end
section
/-! the pass forward, for one stop rule: what is here now, what was before each place, what meets at the end of what opens -/
def df_b (f : Nat → Bool) (k : Nat) (b : Bool) : Nat → Bool := fun j => if j = k then b else f j
theorem df_bs {f : Nat → Bool} {k : Nat} {b : Bool} : df_b f k b k = b := if_pos rfl
theorem df_bn {f : Nat → Bool} {k j : Nat} {b : Bool} (h : j ≠ k) : df_b f k b j = f j := if_neg h
def df_x (K O L : Nat → Nat) (p : Nat) (c : Bool) (f m : Nat → Bool) : Bool :=
  if K (O p) = 2 then (if L (O p) = 0 then (m (O p) || c) || f (O p) else m (O p) || c)
  else if K (O p) = 4 then m (O p) || f (O p) else m (O p)
def df_c (K O L : Nat → Nat) (st : Nat → Bool) (p : Nat) (c : Bool) (f m : Nat → Bool) : Bool :=
  if K p = 6 then df_x K O L p c f m else if K p = 0 then c && !st p else if K p = 3 then f (O p)
  else if K p = 7 ∨ K p = 8 ∨ K p = 9 then false else c
def df_f (K O L : Nat → Nat) (p : Nat) (c : Bool) (f m : Nat → Bool) : Bool :=
  if K p = 6 ∧ K (O p) = 2 then df_x K O L p c f m else c
def df_m (K O L : Nat → Nat) (p : Nat) (c : Bool) (f m : Nat → Bool) : Nat → Bool :=
  if K p = 6 then df_b m (O p) (df_x K O L p c f m) else if dq_o (K p) then df_b m p false
  else if K p = 3 ∨ K p = 7 then df_b m (O p) (m (O p) || c) else m
def df_r (K O L : Nat → Nat) (st : Nat → Bool) : Nat → Bool × (Nat → Bool) × (Nat → Bool)
  | 0 => (true, fun _ => false, fun _ => false)
  | p + 1 =>
    (df_c K O L st p (df_r K O L st p).1 (df_r K O L st p).2.1 (df_r K O L st p).2.2,
     df_b (df_r K O L st p).2.1 p (df_f K O L p (df_r K O L st p).1 (df_r K O L st p).2.1 (df_r K O L st p).2.2),
     df_m K O L p (df_r K O L st p).1 (df_r K O L st p).2.1 (df_r K O L st p).2.2)
def df_C (K O L : Nat → Nat) (st : Nat → Bool) (p : Nat) : Bool := (df_r K O L st p).1
def df_F (K O L : Nat → Nat) (st : Nat → Bool) (q : Nat) : Bool := (df_r K O L st (q + 1)).2.1 q
def df_M (K O L : Nat → Nat) (st : Nat → Bool) (p : Nat) : Nat → Bool := (df_r K O L st p).2.2
def df_X (K O L : Nat → Nat) (st : Nat → Bool) (p : Nat) : Bool := df_x K O L p (df_r K O L st p).1 (df_r K O L st p).2.1 (df_r K O L st p).2.2
section
variable {K O E L : Nat → Nat} {st : Nat → Bool} {n : Nat}
theorem df_st {q : Nat} : ∀ p, q < p → (df_r K O L st p).2.1 q = df_F K O L st q := by
  intro p
  induction p with
  | zero => intro h; omega
  | succ p ih =>
    intro h
    by_cases e : q = p
    · subst e; rfl
    · show df_b _ p _ q = _
      rw [df_bn e]
      exact ih (by omega)
theorem df_c6 {p : Nat} (h : K p = 6) : df_C K O L st (p + 1) = df_X K O L st p := if_pos h
theorem df_c0 {p : Nat} (h : K p = 0) : df_C K O L st (p + 1) = (df_C K O L st p && !st p) := (if_neg (by omega)).trans (if_pos h)
theorem df_c3 {p : Nat} (h : K p = 3) (hO : O p < p) : df_C K O L st (p + 1) = df_F K O L st (O p) :=
  ((if_neg (by omega)).trans ((if_neg (by omega)).trans (if_pos h))).trans (df_st p hO)
theorem df_c7 {p : Nat} (h : K p = 7 ∨ K p = 8 ∨ K p = 9) : df_C K O L st (p + 1) = false :=
  (if_neg (by omega)).trans ((if_neg (by omega)).trans ((if_neg (by omega)).trans (if_pos h)))
theorem df_c1 {p : Nat} (h6 : K p ≠ 6) (h0 : K p ≠ 0) (h3 : K p ≠ 3) (h7 : ¬ (K p = 7 ∨ K p = 8 ∨ K p = 9)) : df_C K O L st (p + 1) = df_C K O L st p :=
  (if_neg h6).trans ((if_neg h0).trans ((if_neg h3).trans (if_neg h7)))
theorem df_fx {p : Nat} (h : K p = 6) (h2 : K (O p) = 2) : df_F K O L st p = df_X K O L st p := df_bs.trans (if_pos ⟨h, h2⟩)
theorem df_fc {p : Nat} (h : ¬ (K p = 6 ∧ K (O p) = 2)) : df_F K O L st p = df_C K O L st p := df_bs.trans (if_neg h)
theorem df_m6 {p : Nat} (h : K p = 6) : df_M K O L st (p + 1) = df_b (df_M K O L st p) (O p) (df_X K O L st p) := if_pos h
theorem df_mo {p : Nat} (h : dq_o (K p)) : df_M K O L st (p + 1) = df_b (df_M K O L st p) p false := (if_neg (by omega)).trans (if_pos h)
theorem df_m3 {p : Nat} (h : K p = 3 ∨ K p = 7) : df_M K O L st (p + 1) = df_b (df_M K O L st p) (O p) (df_M K O L st p (O p) || df_C K O L st p) :=
  (if_neg (by omega)).trans ((if_neg (by omega)).trans (if_pos h))
theorem df_m1 {p : Nat} (h6 : K p ≠ 6) (ho : ¬ dq_o (K p)) (h : ¬ (K p = 3 ∨ K p = 7)) : df_M K O L st (p + 1) = df_M K O L st p :=
  (if_neg h6).trans ((if_neg ho).trans (if_neg h))
theorem df_Xi {p : Nat} (hO : O p < p) : df_X K O L st p = true ↔
    (df_M K O L st p (O p) = true ∨ (K (O p) = 2 ∧ df_C K O L st p = true) ∨ (((K (O p) = 2 ∧ L (O p) = 0) ∨ K (O p) = 4) ∧ df_F K O L st (O p) = true)) := by
  have hf := df_st (K := K) (O := O) (L := L) (st := st) p hO
  unfold df_X df_x
  rw [hf]
  show (if K (O p) = 2 then (if L (O p) = 0 then (df_M K O L st p (O p) || df_C K O L st p) || df_F K O L st (O p) else df_M K O L st p (O p) || df_C K O L st p)
    else if K (O p) = 4 then df_M K O L st p (O p) || df_F K O L st (O p) else df_M K O L st p (O p)) = true ↔ _
  generalize df_M K O L st p (O p) = b1
  generalize df_C K O L st p = b2
  generalize df_F K O L st (O p) = b3
  by_cases h2 : K (O p) = 2
  · have h4 : ¬ K (O p) = 4 := by omega
    by_cases hl : L (O p) = 0
    · cases b1 <;> cases b2 <;> cases b3 <;> simp [h2, hl]
    · cases b1 <;> cases b2 <;> cases b3 <;> simp [h2, hl]
  · by_cases h4 : K (O p) = 4
    · cases b1 <;> cases b2 <;> cases b3 <;> simp [h4]
    · cases b1 <;> cases b2 <;> cases b3 <;> simp [h2, h4]
/-- what is inside comes only where what opens has come -/
theorem df_in (hW : dz_W n K O E L) : ∀ p, p ≤ n → ∀ a, a < p → p ≤ E a → dq_o (K a) →
    (df_C K O L st p = true → df_F K O L st a = true) ∧ (df_M K O L st p a = true → df_F K O L st a = true) ∧ (∀ q, a < q → q < p → df_F K O L st q = true → df_F K O L st a = true) := by
  obtain ⟨w1, w2, w3, w4, w5, w6⟩ := hW
  intro p
  induction p with
  | zero => intro _ a h; omega
  | succ p ih =>
    intro hp a ha hE ho
    have IH := ih (by omega)
    by_cases e : a = p
    · subst e
      have eF : df_F K O L st a = df_C K O L st a := df_fc (by omega)
      refine ⟨fun h => ?_, fun h => ?_, fun q h1 h2 => by omega⟩
      · rw [df_c1 (by omega) (by omega) (by omega) (by omega)] at h
        rw [eF]; exact h
      · rw [df_mo ho, df_bs] at h
        exact absurd h (by decide)
    · obtain ⟨i1, i2, i3⟩ := IH a (by omega) (by omega) ho
      have key : ∀ q, a < q → q < p → df_F K O L st q = true → df_F K O L st a = true := i3
      -- what the place p itself holds
      have hX : K p = 6 → df_X K O L st p = true → df_F K O L st a = true := by
        intro h6 h
        obtain ⟨b1, b2, b3⟩ := w2 p (by omega) h6
        have hn := w1 (O p) (by omega) b2
        have lt : a < O p := by
          rcases Nat.lt_trichotomy a (O p) with z | z | z
          · exact z
          · rw [z] at hE; omega
          · have := w3 (O p) a (by omega) b2 z (by omega) ho
            omega
        obtain ⟨o1, o2, o3⟩ := IH (O p) b1 (by omega) b2
        rcases (df_Xi b1).mp h with z | z | z
        · exact i3 (O p) lt b1 (o2 z)
        · exact i1 z.2
        · exact i3 (O p) lt b1 z.2
      have hF : df_F K O L st p = true → df_F K O L st a = true := by
        intro h
        by_cases h6 : K p = 6 ∧ K (O p) = 2
        · rw [df_fx h6.1 h6.2] at h; exact hX h6.1 h
        · rw [df_fc h6] at h; exact i1 h
      refine ⟨fun h => ?_, fun h => ?_, fun q h1 h2 h => ?_⟩
      · by_cases h6 : K p = 6
        · rw [df_c6 h6] at h; exact hX h6 h
        · by_cases h0 : K p = 0
          · rw [df_c0 h0, Bool.and_eq_true_iff] at h; exact i1 h.1
          · by_cases h3 : K p = 3
            · obtain ⟨b1, b2, b3, b4, b5⟩ := w4 p (by omega) h3
              rw [df_c3 h3 b1] at h
              rcases Nat.lt_trichotomy a (O p) with z | z | z
              · exact i3 (O p) z b1 h
              · rw [z]; exact h
              · have := b5 a z (by omega) ho
                omega
            · by_cases h7 : K p = 7 ∨ K p = 8 ∨ K p = 9
              · rw [df_c7 h7] at h; exact absurd h (by decide)
              · rw [df_c1 h6 h0 h3 h7] at h; exact i1 h
      · by_cases h6 : K p = 6
        · obtain ⟨b1, b2, b3⟩ := w2 p (by omega) h6
          have ne : a ≠ O p := by intro z; rw [z] at hE; omega
          rw [df_m6 h6, df_bn ne] at h
          exact i2 h
        · by_cases h2 : dq_o (K p)
          · rw [df_mo h2, df_bn e] at h; exact i2 h
          · by_cases h3 : K p = 3 ∨ K p = 7
            · rw [df_m3 h3] at h
              by_cases ne : a = O p
              · rw [← ne, df_bs, Bool.or_eq_true_iff] at h
                exact h.elim i2 i1
              · rw [df_bn ne] at h; exact i2 h
            · rw [df_m1 h6 h2 h3] at h; exact i2 h
      · by_cases e2 : q = p
        · rw [e2] at h; exact hF h
        · exact i3 q h1 (by omega) h
/-- what is said to be reached is reached -/
theorem df_so (hW : dz_W n K O E L) (hst : ∀ q, st q = true → K q = 0) : ∀ p, p ≤ n →
    (df_C K O L st p = true → dr_R n (de_g (dz_n K O E) (dz_x K E L)) st 0 p) ∧
    (∀ q, q < p → df_F K O L st q = true → dr_R n (de_g (dz_n K O E) (dz_x K E L)) st 0 q) ∧
    (∀ a, a < p → p ≤ E a → dq_o (K a) → df_M K O L st p a = true → dr_R n (de_g (dz_n K O E) (dz_x K E L)) st 0 (if K a = 2 then E a else E a + 1)) := by
  obtain ⟨w1, w2, w3, w4, w5, w6⟩ := hW
  have sf : ∀ q, K q ≠ 0 → st q = false := fun q hq => by
    cases e : st q with
    | false => rfl
    | true => exact absurd (hst q e) hq
  intro p
  induction p with
  | zero => exact fun _ => ⟨fun _ => dr_0, fun q h => absurd h (by omega), fun a h => absurd h (by omega)⟩
  | succ p ih =>
    intro hp
    obtain ⟨i1, i2, i3⟩ := ih (by omega)
    have hF : df_F K O L st p = true → dr_R n (de_g (dz_n K O E) (dz_x K E L)) st 0 p := by
      intro h
      by_cases h6 : K p = 6 ∧ K (O p) = 2
      · rw [df_fx h6.1 h6.2] at h
        obtain ⟨b1, b2, b3⟩ := w2 p (by omega) h6.1
        rcases (df_Xi b1).mp h with z | z | z
        · have := i3 (O p) b1 (by omega) b2 z
          rw [if_pos h6.2, b3] at this
          exact this
        · exact i1 z.2
        · have hl : L (O p) = 0 := by
            rcases z.1 with y | y
            · exact y.2
            · omega
          refine dr_s (i2 (O p) b1 z.2) (by omega) (sf _ (by omega)) (Or.inr ?_)
          unfold dz_x
          rw [if_pos h6.2, if_pos hl, b3]
      · rw [df_fc h6] at h
        exact i1 h
    refine ⟨fun h => ?_, fun q hq h => ?_, fun a ha hE ho h => ?_⟩
    · by_cases h6 : K p = 6
      · rw [df_c6 h6] at h
        obtain ⟨b1, b2, b3⟩ := w2 p (by omega) h6
        by_cases h2 : K (O p) = 2
        · rw [← df_fx h6 h2] at h
          refine dr_s (hF h) (by omega) (sf _ (by omega)) (Or.inl ?_)
          unfold dz_n
          rw [if_neg (by omega), if_neg (by omega), if_neg (by omega), if_neg (by omega), if_neg (by omega)]
        · rcases (df_Xi b1).mp h with z | z | z
          · have := i3 (O p) b1 (by omega) b2 z
            rw [if_neg h2, b3] at this
            exact this
          · exact absurd z.1 h2
          · have h4 : K (O p) = 4 := by
              rcases z.1 with y | y
              · exact absurd y.1 h2
              · exact y
            refine dr_s (i2 (O p) b1 z.2) (by omega) (sf _ (by omega)) (Or.inr ?_)
            unfold dz_x
            rw [if_neg h2, if_pos h4, b3]
      · by_cases h0 : K p = 0
        · rw [df_c0 h0, Bool.and_eq_true_iff] at h
          refine dr_s (i1 h.1) (by omega) (by simpa using h.2) (Or.inl ?_)
          unfold dz_n
          rw [if_neg (by omega), if_neg (by omega), if_neg (by omega), if_neg (by omega), if_neg (by omega)]
        · by_cases h3 : K p = 3
          · obtain ⟨b1, b2, b3, b4, b5⟩ := w4 p (by omega) h3
            rw [df_c3 h3 b1] at h
            refine dr_s (i2 (O p) b1 h) (by omega) (sf _ (by omega)) (Or.inr ?_)
            unfold dz_x
            rw [if_pos b2, b3, if_neg (by omega)]
          · by_cases h7 : K p = 7 ∨ K p = 8 ∨ K p = 9
            · rw [df_c7 h7] at h; exact absurd h (by decide)
            · rw [df_c1 h6 h0 h3 h7] at h
              refine dr_s (i1 h) (by omega) (sf _ h0) (Or.inl ?_)
              unfold dz_n
              rw [if_neg (by omega), if_neg (by omega), if_neg (by omega), if_neg (by omega), if_neg (by omega)]
    · by_cases e : q = p
      · rw [e] at h ⊢; exact hF h
      · exact i2 q (by omega) h
    · by_cases h6 : K p = 6
      · obtain ⟨b1, b2, b3⟩ := w2 p (by omega) h6
        have ne : a ≠ O p := by intro z; rw [z] at hE; omega
        have ne2 : a ≠ p := by intro z; rw [z] at ho; omega
        rw [df_m6 h6, df_bn ne] at h
        exact i3 a (by omega) (by omega) ho h
      · by_cases h2 : dq_o (K p)
        · rw [df_mo h2] at h
          by_cases e : a = p
          · rw [e, df_bs] at h; exact absurd h (by decide)
          · rw [df_bn e] at h; exact i3 a (by omega) (by omega) ho h
        · have ne2 : a ≠ p := by intro z; rw [z] at ho; exact h2 ho
          by_cases h3 : K p = 3 ∨ K p = 7
          · rw [df_m3 h3] at h
            by_cases ne : a = O p
            · rw [← ne, df_bs, Bool.or_eq_true_iff] at h
              rcases h with h | h
              · exact i3 a (by omega) (by omega) ho h
              · refine dr_s (i1 h) (by omega) (sf _ (by omega)) (Or.inl ?_)
                unfold dz_n
                rcases h3 with z | z
                · obtain ⟨b1, b2, b3, b4, b5⟩ := w4 p (by omega) z
                  rw [if_pos z, ne, if_pos b2]
                · obtain ⟨b1, b2, b3⟩ := w6 p (by omega) (Or.inl z)
                  rw [if_neg (by omega), if_neg (by omega), if_pos z, ne, if_neg (by omega)]
            · rw [df_bn ne] at h; exact i3 a (by omega) (by omega) ho h
          · rw [df_m1 h6 h2 h3] at h; exact i3 a (by omega) (by omega) ho h
theorem df_mu (hW : dz_W n K O E L) {a : Nat} (ho : dq_o (K a)) (han : a < n) : ∀ d p, a < p → p + d ≤ E a → df_M K O L st p a = true → df_M K O L st (p + d) a = true := by
  obtain ⟨w1, w2, w3, w4, w5, w6⟩ := hW
  have hE := w1 a han ho
  intro d
  induction d with
  | zero => intro p _ _ h; exact h
  | succ d ih =>
    intro p hp hd h
    have h1 := ih p hp (by omega) h
    show df_M K O L st ((p + d) + 1) a = true
    generalize hq : p + d = q at h1 hd
    by_cases h6 : K q = 6
    · obtain ⟨b1, b2, b3⟩ := w2 q (by omega) h6
      have ne : a ≠ O q := by intro z; rw [← z] at b3; omega
      rw [df_m6 h6, df_bn ne]; exact h1
    · by_cases h2 : dq_o (K q)
      · rw [df_mo h2, df_bn (by omega)]; exact h1
      · by_cases h3 : K q = 3 ∨ K q = 7
        · rw [df_m3 h3]
          by_cases ne : a = O q
          · rw [← ne, df_bs, h1, Bool.true_or]
          · rw [df_bn ne]; exact h1
        · rw [df_m1 h6 h2 h3]; exact h1
def df_G (K O L : Nat → Nat) (st : Nat → Bool) (n q : Nat) : Bool := if q < n then df_F K O L st q else df_C K O L st q
theorem df_cF (hW : dz_W n K O E L) {p : Nat} (hp : p ≤ n) (h : df_C K O L st p = true) : df_G K O L st n p = true := by
  unfold df_G
  by_cases e : p < n
  · rw [if_pos e]
    by_cases h6 : K p = 6 ∧ K (O p) = 2
    · rw [df_fx h6.1 h6.2]
      exact (df_Xi (hW.2.1 p e h6.1).1).mpr (Or.inr (Or.inl ⟨h6.2, h⟩))
    · rw [df_fc h6]; exact h
  · rw [if_neg e]; exact h
theorem df_cl (hW : dz_W n K O E L) {x y : Nat} (hx : df_G K O L st n x = true) (hxn : x < n) (hs : st x = false) (he : de_g (dz_n K O E) (dz_x K E L) x y) : df_G K O L st n y = true := by
  have hW' := hW
  obtain ⟨w1, w2, w3, w4, w5, w6⟩ := hW'
  have hx' : df_F K O L st x = true := by
    unfold df_G at hx
    rw [if_pos hxn] at hx
    exact hx
  have G1 : ∀ q, q < n → df_F K O L st q = true → df_G K O L st n q = true := fun q hq h => by
    unfold df_G
    rw [if_pos hq]
    exact h
  rcases he with e | e
  · unfold dz_n at e
    by_cases h3 : K x = 3
    · rw [if_pos h3] at e
      obtain ⟨b1, b2, b3, b4, b5⟩ := w4 x hxn h3
      have c := w1 (O x) (by omega) (by omega)
      rw [df_fc (by omega)] at hx'
      have m1 : df_M K O L st (x + 1) (O x) = true := by rw [df_m3 (Or.inl h3), df_bs, hx', Bool.or_true]
      have m2 := df_mu (st := st) hW (a := O x) (by omega) (by omega) (E (O x) - (x + 1)) (x + 1) (by omega) (by omega) m1
      rw [show x + 1 + (E (O x) - (x + 1)) = E (O x) by omega] at m2
      cases e
      apply G1 _ (by omega)
      rw [df_fx c.2.2.1 (by rw [c.2.2.2]; exact b2)]
      refine (df_Xi (by rw [c.2.2.2]; omega)).mpr (Or.inl ?_)
      rw [c.2.2.2]
      exact m2
    · rw [if_neg h3] at e
      by_cases h6 : K x = 6 ∧ K (O x) ≠ 2
      · rw [if_pos h6] at e
        obtain ⟨b1, b2, b3⟩ := w2 x hxn h6.1
        rw [df_fc (fun z => h6.2 z.2)] at hx'
        cases e
        exact G1 _ (by omega) ((df_in hW x (by omega) (O x) b1 (by omega) b2).1 hx')
      · rw [if_neg h6] at e
        by_cases h7 : K x = 7
        · rw [if_pos h7] at e
          obtain ⟨b1, b2, b3⟩ := w6 x hxn (Or.inl h7)
          have c := w1 (O x) (by omega) (by omega)
          rw [df_fc (by omega)] at hx'
          have m1 : df_M K O L st (x + 1) (O x) = true := by rw [df_m3 (Or.inr h7), df_bs, hx', Bool.or_true]
          have m2 := df_mu (st := st) hW (a := O x) (by omega) (by omega) (E (O x) - (x + 1)) (x + 1) (by omega) (by omega) m1
          rw [show x + 1 + (E (O x) - (x + 1)) = E (O x) by omega] at m2
          cases e
          apply df_cF hW (by omega)
          rw [df_c6 c.2.2.1]
          refine (df_Xi (by rw [c.2.2.2]; omega)).mpr (Or.inl ?_)
          rw [c.2.2.2]
          exact m2
        · rw [if_neg h7] at e
          by_cases h8 : K x = 8
          · rw [if_pos h8] at e
            obtain ⟨b1, b2, b3⟩ := w6 x hxn (Or.inr h8)
            rw [df_fc (by omega)] at hx'
            cases e
            exact G1 _ (by omega) ((df_in hW x (by omega) (O x) b1 (by omega) (by omega)).1 hx')
          · rw [if_neg h8] at e
            by_cases h9 : K x = 9
            · rw [if_pos h9] at e; cases e
            · rw [if_neg h9] at e
              cases e
              apply df_cF hW (by omega)
              by_cases k6 : K x = 6
              · have k2 : K (O x) = 2 := by
                  apply Classical.byContradiction
                  intro z
                  exact h6 ⟨k6, z⟩
                rw [df_c6 k6, ← df_fx k6 k2]; exact hx'
              · rw [df_fc (by omega)] at hx'
                by_cases k0 : K x = 0
                · rw [df_c0 k0, hx', hs]; rfl
                · rw [df_c1 k6 k0 h3 (by omega)]; exact hx'
  · unfold dz_x at e
    by_cases h2 : K x = 2
    · rw [if_pos h2] at e
      have c := w1 x hxn (by omega)
      by_cases hl : L x = 0
      · rw [if_pos hl] at e
        cases e
        apply G1 _ (by omega)
        rw [df_fx c.2.2.1 (by rw [c.2.2.2]; exact h2)]
        refine (df_Xi (by rw [c.2.2.2]; omega)).mpr (Or.inr (Or.inr ?_))
        rw [c.2.2.2]
        exact ⟨Or.inl ⟨h2, hl⟩, hx'⟩
      · rw [if_neg hl] at e
        obtain ⟨d1, d2, d3, d4⟩ := w5 x hl
        cases e
        apply df_cF hW (by omega)
        rw [df_c3 d3 (by rw [d4]; omega), d4]
        exact hx'
    · rw [if_neg h2] at e
      by_cases h4 : K x = 4
      · rw [if_pos h4] at e
        have c := w1 x hxn (by omega)
        cases e
        apply df_cF hW (by omega)
        rw [df_c6 c.2.2.1]
        refine (df_Xi (by rw [c.2.2.2]; omega)).mpr (Or.inr (Or.inr ?_))
        rw [c.2.2.2]
        exact ⟨Or.inr h4, hx'⟩
      · rw [if_neg h4] at e; cases e
/-- THE PASS FORWARD: it finds just what is reached -/
theorem df_main (hW : dz_W n K O E L) (hst : ∀ q, st q = true → K q = 0) {q : Nat} (hq : q ≤ n) : df_G K O L st n q = dB_p (dr_R n (de_g (dz_n K O E) (dz_x K E L)) st 0 q) := by
  apply dB_e
  constructor
  · intro h
    obtain ⟨a1, a2, a3⟩ := df_so hW hst n (Nat.le_refl n)
    unfold df_G at h
    by_cases e : q < n
    · rw [if_pos e] at h; exact a2 q e h
    · rw [if_neg e] at h
      have : q = n := by omega
      subst this
      exact a1 h
  · intro h
    exact h (fun q => df_G K O L st n q = true) (df_cF hW (by omega) rfl) (fun x y hx hxn hs he => df_cl hW hx hxn hs he)
end
/-- fewer stops, more is reached -/
theorem df_le {K O L : Nat → Nat} {st st' : Nat → Bool} (h : ∀ q, st' q = true → st q = true) : ∀ p, ((df_r K O L st p).1 = true → (df_r K O L st' p).1 = true) ∧
    (∀ q, (df_r K O L st p).2.1 q = true → (df_r K O L st' p).2.1 q = true) ∧ (∀ q, (df_r K O L st p).2.2 q = true → (df_r K O L st' p).2.2 q = true) := by
  intro p
  induction p with
  | zero => exact ⟨id, fun _ => id, fun _ => id⟩
  | succ p ih =>
    obtain ⟨i1, i2, i3⟩ := ih
    have hx : df_x K O L p (df_r K O L st p).1 (df_r K O L st p).2.1 (df_r K O L st p).2.2 = true → df_x K O L p (df_r K O L st' p).1 (df_r K O L st' p).2.1 (df_r K O L st' p).2.2 = true := by
      have a1 := i2 (O p)
      have a2 := i3 (O p)
      unfold df_x
      revert a1 a2 i1
      generalize (df_r K O L st p).1 = c1
      generalize (df_r K O L st' p).1 = c2
      generalize (df_r K O L st p).2.1 (O p) = f1
      generalize (df_r K O L st' p).2.1 (O p) = f2
      generalize (df_r K O L st p).2.2 (O p) = m1
      generalize (df_r K O L st' p).2.2 (O p) = m2
      intro i1 a1 a2
      by_cases h2 : K (O p) = 2
      · rw [if_pos h2, if_pos h2]
        by_cases hl : L (O p) = 0
        · rw [if_pos hl, if_pos hl]; simp only [Bool.or_eq_true]; exact fun z => z.imp (fun z => z.imp a2 i1) a1
        · rw [if_neg hl, if_neg hl]; simp only [Bool.or_eq_true]; exact fun z => z.imp a2 i1
      · rw [if_neg h2, if_neg h2]
        by_cases h4 : K (O p) = 4
        · rw [if_pos h4, if_pos h4]; simp only [Bool.or_eq_true]; exact fun z => z.imp a2 a1
        · rw [if_neg h4, if_neg h4]; exact a2
    have hb : ∀ {f g : Nat → Bool} {k : Nat} {x y : Bool}, (∀ q, f q = true → g q = true) → (x = true → y = true) → ∀ q, df_b f k x q = true → df_b g k y q = true := by
      intro f g k x y hfg hxy q
      by_cases e : q = k
      · subst e; rw [df_bs, df_bs]; exact hxy
      · rw [df_bn e, df_bn e]; exact hfg q
    refine ⟨?_, ?_, ?_⟩
    · show df_c K O L st p _ _ _ = true → df_c K O L st' p _ _ _ = true
      unfold df_c
      by_cases h6 : K p = 6
      · rw [if_pos h6, if_pos h6]; exact hx
      · rw [if_neg h6, if_neg h6]
        by_cases h0 : K p = 0
        · rw [if_pos h0, if_pos h0]
          simp only [Bool.and_eq_true]
          intro z
          refine ⟨i1 z.1, ?_⟩
          cases e : st' p with
          | false => rfl
          | true => rw [h p e] at z; exact absurd z.2 (by decide)
        · rw [if_neg h0, if_neg h0]
          by_cases h3 : K p = 3
          · rw [if_pos h3, if_pos h3]; exact i2 _
          · rw [if_neg h3, if_neg h3]
            by_cases h7 : K p = 7 ∨ K p = 8 ∨ K p = 9
            · rw [if_pos h7, if_pos h7]; exact id
            · rw [if_neg h7, if_neg h7]; exact i1
    · refine hb i2 ?_
      unfold df_f
      by_cases h6 : K p = 6 ∧ K (O p) = 2
      · rw [if_pos h6, if_pos h6]; exact hx
      · rw [if_neg h6, if_neg h6]; exact i1
    · show ∀ q, df_m K O L p _ _ _ q = true → df_m K O L p _ _ _ q = true
      unfold df_m
      by_cases h6 : K p = 6
      · rw [if_pos h6, if_pos h6]; exact hb i3 hx
      · rw [if_neg h6, if_neg h6]
        by_cases h2 : dq_o (K p)
        · rw [if_pos h2, if_pos h2]; exact hb i3 id
        · rw [if_neg h2, if_neg h2]
          by_cases h3 : K p = 3 ∨ K p = 7
          · rw [if_pos h3, if_pos h3]
            refine hb i3 ?_
            simp only [Bool.or_eq_true]
            exact fun z => z.imp (i3 _) i1
          · rw [if_neg h3, if_neg h3]; exact i3
end
section
/-! the component finds the structure -/
section
variable {xl xr xg xo xn xv : Int32} {ki va ea el op sk be co me ma wa : Nat → Int32}
def dx_e : Nat → Int32
  | 0 => -1
  | e + 1 => nI (e + 1)
def dx_o : Option Nat → Int32
  | none => -1
  | some b => nI b
def dx_b (b : Bool) : Int32 := if b = true then 1 else 0
def dx_S (sk : Nat → Int32) : List Nat → Prop
  | [] => True
  | a :: s => sk s.length = nI a ∧ dx_S sk s
theorem dx_Su {k : Nat} {x : Int32} : ∀ {s : List Nat}, s.length ≤ k → dx_S sk s → dx_S (upd sk k x) s := by
  intro s
  induction s with
  | nil => intro _ _; trivial
  | cons a s ih =>
    intro h hs
    have h' : s.length + 1 ≤ k := h
    exact ⟨by rw [pk_un (by omega)]; exact hs.1, ih (by omega) hs.2⟩
theorem ds_Sl (K : Nat → Nat) : ∀ p, (ds_S K p).length ≤ p := by
  intro p
  induction p with
  | zero => exact Nat.le_refl 0
  | succ p ih =>
    unfold ds_S
    by_cases h : dq_o (K p)
    · rw [if_pos h]; show (ds_S K p).length + 1 ≤ p + 1; omega
    · rw [if_neg h]
      by_cases h6 : K p = 6
      · rw [if_pos h6, List.length_tail]; omega
      · rw [if_neg h6]; omega
theorem dx_en {e : Nat} (h : e ≠ 0) : dx_e e = nI e := by
  cases e with
  | zero => exact absurd rfl h
  | succ e => rfl
theorem dx_ol {post : Int32 → Prop} {K : Nat → Nat} (hK : ∀ j, ki j = nI (K j)) (hk9 : ∀ j, K j ≤ 9) : ∀ (s : List Nat) (n : Nat), s.length < n → s.length ≤ 40 → dx_S sk s → (∀ a, a ∈ s → a < 40) → post (dx_o (ds_l K s)) → wX_openLoop_7 post xl xr xg xo xn xv ki va ea el op sk be co me ma wa n (nI s.length + (-1)) := by
  intro s
  induction s with
  | nil =>
    intro n hn _ _ _ hp
    obtain ⟨m, rfl⟩ : ∃ m, n = m + 1 := ⟨n - 1, by omega⟩
    have e : nI ([] : List Nat).length + (-1) = -1 := by decide
    rw [e, wX_openLoop_7]
    exact br_t (by decide) (br_f (by decide) hp)
  | cons a s ih =>
    intro n hn hl hS ha hp
    obtain ⟨m, rfl⟩ : ∃ m, n = m + 1 := ⟨n - 1, by omega⟩
    have hl' : s.length + 1 ≤ 40 := hl
    have hn' : s.length + 1 < m + 1 := hn
    have e : nI (a :: s).length + (-1) = nI s.length := pk_m1 s.length
    have c : (nI s.length).toNatClampNeg = s.length := nI_clamp (by omega)
    have hs : sk s.length = nI a := hS.1
    have ha' := ha a List.mem_cons_self
    have ca : (nI a).toNatClampNeg = a := nI_clamp (by omega)
    have hd : ds_l K (a :: s) = if K a = 2 then ds_l K s else some a := rfl
    have k9 := hk9 a
    rw [e, wX_openLoop_7]
    refine br_f (nI_pos (by omega)) ⟨vp_in_nI (by omega) (by decide), ?_⟩
    rw [c, hs, ca, hK a]
    refine ⟨vp_in_nI ha' (by decide), pk_eq (K a) 2 (fun h => ?_) (fun h => ?_)⟩
    · refine nm_e ?_
      refine ih m (by omega) (by omega) hS.2 (fun b hb => ha b (List.mem_cons_of_mem a hb)) ?_
      rw [hd, if_pos h] at hp; exact hp
    · refine br_t (nI_pos' (by omega)) ⟨vp_in_nI (by omega) (by decide), ?_⟩
      rw [c, hs]; rw [hd, if_neg h] at hp; exact hp
theorem dx_opl {post : Int32 → Prop} {K : Nat → Nat} (hK : ∀ j, ki j = nI (K j)) (hk9 : ∀ j, K j ≤ 9) (s : List Nat) (hl : s.length ≤ 40) (hS : dx_S sk s) (ha : ∀ a, a ∈ s → a < 40) (hp : post (dx_o (ds_l K s))) : wpX_openLoop post (xl, xr, xg, nI s.length, xn, xv, ki, va, ea, el, op, sk, be, co, me, ma, wa) := by
  unfold wpX_openLoop
  dsimp only
  exact nm_r (Int32.sub_eq_add_neg _ _) ⟨s.length + 1, dx_ol hK hk9 s (s.length + 1) (by omega) hl hS ha hp⟩
/-- the component's arrays after the places below p -/
def dx_A (K : Nat → Nat) (p : Nat) (xo : Int32) (ea el op sk : Nat → Int32) : Prop :=
  xo = nI (ds_S K p).length ∧ dx_S sk (ds_S K p) ∧ (∀ q, q < p → ea q = dx_e (ds_E K p q)) ∧ (∀ q, q < p → el q = dx_e (ds_L K p q)) ∧
  (∀ q, q < p → (K q = 3 ∨ K q = 6 ∨ K q = 7 ∨ K q = 8) → op q = nI (ds_O K q))
theorem dx_pt {post : Int32 → SX → Prop} {K : Nat → Nat} {p : Nat} (hK : ∀ j, ki j = nI (K j)) (hk9 : ∀ j, K j ≤ 9) (hp : p < 40) (hok : ds_ok K p) (hA : dx_A K p xo ea el op sk)
    (h1 : ds_1 K p → ∀ (xo : Int32) (ea el op sk : Nat → Int32), dx_A K (p + 1) xo ea el op sk → post 1 (xl, xr, xg, xo, xn, xv, ki, va, ea, el, op, sk, be, co, me, ma, wa)) (h0 : ¬ ds_1 K p → ∀ (xo : Int32) (ea el op sk : Nat → Int32), post 0 (xl, xr, xg, xo, xn, xv, ki, va, ea, el, op, sk, be, co, me, ma, wa)) : wpX_placeToken post (xl, xr, xg, xo, xn, xv, ki, va, ea, el, op, sk, be, co, me, ma, wa) (nI p) := by
  have J := ds_Jp K p hok
  obtain ⟨j1, j2, j3, j5, j6, j7, j8, j9, j0⟩ := J
  obtain ⟨A1, A2, A3, A4, A5⟩ := hA
  subst A1
  have Sl := ds_Sl K p
  have k9 := hk9 p
  have c : (nI p).toNatClampNeg = p := nI_clamp (by omega)
  have v : vp_in (nI p) 40 := vp_in_nI hp (by decide)
  have e0 : ds_E K p p = 0 := by
    apply Classical.byContradiction
    intro z
    have := j0 p z
    omega
  have l0 : ds_L K p p = 0 := by
    apply Classical.byContradiction
    intro z
    have := j9 p z
    omega
  have E' : ∀ q, q < p + 1 → upd ea p (-1) q = dx_e (ds_E K p q) := by
    intro q hq
    by_cases e : q = p
    · subst e; rw [pk_us, e0]; rfl
    · rw [pk_un e]; exact A3 q (by omega)
  have L' : ∀ q, q < p + 1 → upd el p (-1) q = dx_e (ds_L K p q) := by
    intro q hq
    by_cases e : q = p
    · subst e; rw [pk_us, l0]; rfl
    · rw [pk_un e]; exact A4 q (by omega)
  have O' : ∀ (x : Int32) q, q < p → (K q = 3 ∨ K q = 6 ∨ K q = 7 ∨ K q = 8) → upd op p x q = nI (ds_O K q) := by
    intro x q hq hk
    rw [pk_un (by omega)]; exact A5 q hq hk
  have H43 : dq_o (K p) → wX_placeToken_43 post (nI p) xl xr xg (nI (ds_S K p).length) xn xv ki va (upd ea p (-1)) (upd el p (-1)) (upd op p (-1)) sk be co me ma wa := by
    intro ho
    unfold wX_placeToken_43
    refine ⟨vp_in_nI (by omega) (by decide), fun sk1 e6 => ?_⟩
    rw [nI_clamp (by omega)] at e6
    subst e6
    refine nm_r (nI_1 _) (h1 ⟨fun z => absurd z (by omega), fun z => absurd z (by omega), fun z => absurd z (by omega)⟩ _ _ _ _ _ ?_)
    have e1 : ds_S K (p + 1) = p :: ds_S K p := if_pos ho
    have e2 : ds_E K (p + 1) = ds_E K p := if_neg (by omega)
    have e3 : ds_L K (p + 1) = ds_L K p := if_neg (by omega)
    unfold dx_A
    rw [e1, e2, e3]
    refine ⟨rfl, ⟨pk_us, dx_Su (Nat.le_refl _) A2⟩, E', L', fun q hq hk => ?_⟩
    have ne : q ≠ p := by intro z; subst z; omega
    exact O' _ q (by omega) hk
  have H77 : (K p = 7 ∨ K p = 8) → wX_placeToken_77 post (nI p) xl xr xg (nI (ds_S K p).length) xn xv ki va (upd ea p (-1)) (upd el p (-1)) (upd op p (-1)) sk be co me ma wa := by
    intro h7
    unfold wX_placeToken_77
    refine dx_opl hK hk9 (ds_S K p) (by omega) A2 (fun a ha => by have := (j1 a ha).1; omega) ?_
    refine ⟨v, fun op1 e6 => ⟨v, ?_⟩⟩
    rw [c] at e6
    subst e6
    rw [c, pk_us]
    have e1 : ds_S K (p + 1) = ds_S K p := (if_neg (by omega)).trans (if_neg (by omega))
    have e2 : ds_E K (p + 1) = ds_E K p := if_neg (by omega)
    have e3 : ds_L K (p + 1) = ds_L K p := if_neg (by omega)
    have eO : ds_O K p = (ds_l K (ds_S K p)).getD 0 := if_pos h7
    cases hq : ds_l K (ds_S K p) with
    | none =>
      refine br_t (show (-1 : Int32) < 0 by decide) (h0 (fun z => ?_) _ _ _ _ _)
      exact z.2.2 h7 hq
    | some b =>
      have hb := ds_lm hq
      have hb2 := (j1 b hb.1).1
      rw [hq] at eO
      refine br_f (show ¬ nI b < 0 from nI_pos (by omega)) (h1 ⟨fun z => absurd z (by omega), fun z => absurd z (by omega), fun z => by rw [hq]; simp⟩ _ _ _ _ _ ?_)
      unfold dx_A
      rw [e1, e2, e3]
      refine ⟨rfl, A2, E', L', fun q hq hk => ?_⟩
      by_cases e : q = p
      · subst e; rw [pk_us, eO]; rfl
      · rw [pk_un e]; exact O' _ q (by omega) hk
  have H115 : (K p = 3 ∨ K p = 6) → wX_placeToken_115 post (nI p) (nI (K p)) xl xr xg (nI (ds_S K p).length) xn xv ki va (upd ea p (-1)) (upd el p (-1)) (upd op p (-1)) sk be co me ma wa := by
    intro h3
    have eO : ds_O K p = ds_T K p := if_neg (by omega)
    unfold wX_placeToken_115
    cases hS : ds_S K p with
    | nil =>
      refine br_t (show nI ([] : List Nat).length = 0 by decide) (h0 (fun z => ?_) _ _ _ _ _)
      rcases h3 with k | k
      · exact (z.1 k).1 hS
      · exact z.2.1 k hS
    | cons a s =>
      have eT : ds_T K p = a := by unfold ds_T; rw [hS]; rfl
      rw [eT] at eO
      rw [hS] at A2 Sl j1
      have Sl' : s.length + 1 ≤ p := Sl
      have ha := (j1 a List.mem_cons_self).1
      have ca : (nI a).toNatClampNeg = a := nI_clamp (by omega)
      have vina : vp_in (nI a) 40 := vp_in_nI (by omega) (by decide)
      have ep : nI (a :: s).length - 1 = nI s.length := nI_pred s.length
      have cs : (nI s.length).toNatClampNeg = s.length := nI_clamp (by omega)
      have hs : sk s.length = nI a := A2.1
      refine br_f (nI_ne0 (Nat.succ_pos _) (by show s.length + 1 < 2 ^ 31; omega)) ?_
      rw [ep, cs, hs]
      refine ⟨vp_in_nI (by omega) (by decide), nm_e ⟨v, fun op1 e6 => ?_⟩⟩
      rw [c] at e6
      subst e6
      rw [ca]
      have O2 : ∀ q, q < p + 1 → (K q = 3 ∨ K q = 6 ∨ K q = 7 ∨ K q = 8) → upd (upd op p (-1)) p (nI a) q = nI (ds_O K q) := by
        intro q hq hk
        by_cases e : q = p
        · subst e; rw [pk_us, eO]
        · rw [pk_un e]; exact O' _ q (by omega) hk
      refine pk_eq (K p) 6 (fun k6 => ?_) (fun n6 => ?_)
      · refine ⟨vina, nm_e (nm_e (h1 ⟨fun z => absurd z (by omega), fun _ => by rw [hS]; simp, fun z => absurd z (by omega)⟩ _ _ _ _ _ ?_))⟩
        have e1 : ds_S K (p + 1) = s := ((if_neg (by omega)).trans (if_pos k6)).trans (by rw [hS]; rfl)
        have e2 : ds_E K (p + 1) = dn_u (ds_E K p) a p := (if_pos k6).trans (by rw [eT])
        have e3 : ds_L K (p + 1) = ds_L K p := if_neg (by omega)
        unfold dx_A
        rw [e1, e2, e3]
        refine ⟨rfl, A2.2, fun q hq => ?_, L', O2⟩
        by_cases e : q = a
        · subst e; rw [pk_us, dn_s, dx_en (by omega)]
        · rw [pk_un e, dn_n e]; exact E' q hq
      · have k3 : K p = 3 := by omega
        have e1 : ds_S K (p + 1) = ds_S K p := (if_neg (by omega)).trans (if_neg (by omega))
        have e2 : ds_E K (p + 1) = ds_E K p := if_neg (by omega)
        have e3 : ds_L K (p + 1) = dn_u (ds_L K p) a p := (if_pos k3).trans (by rw [eT])
        have k9a := hk9 a
        have hla : upd el p (-1) a = dx_e (ds_L K p a) := L' a (by omega)
        rw [hK a, hla]
        refine ⟨vina, pk_eq (K a) 2 (fun ka => ⟨vina, ?_⟩) (fun na => h0 (fun z => ?_) _ _ _ _ _)⟩
        · by_cases hl : ds_L K p a = 0
          · rw [hl]
            refine br_t (show (-1 : Int32) < 0 by decide) ⟨vina, nm_e (h1 ⟨fun _ => ⟨by rw [hS]; simp, by rw [eT]; exact ka, by rw [eT]; exact hl⟩, fun z => absurd z (by omega), fun z => absurd z (by omega)⟩ _ _ _ _ _ ?_)⟩
            unfold dx_A
            rw [e1, e2, e3, hS]
            refine ⟨rfl, A2, E', fun q hq => ?_, O2⟩
            by_cases e : q = a
            · subst e; rw [pk_us, dn_s, dx_en (by omega)]
            · rw [pk_un e, dn_n e]; exact L' q hq
          · have hl2 := (j9 a hl).2.1
            rw [dx_en hl]
            refine br_f (nI_pos (by omega)) (h0 (fun z => ?_) _ _ _ _ _)
            have := (z.1 k3).2.2
            rw [eT] at this
            exact hl this
        · have := (z.1 k3).2.1
          rw [eT] at this
          exact na this
  unfold wpX_placeToken
  dsimp only
  refine ⟨v, fun x2 e2 => ⟨v, fun ea1 e3 => ⟨v, fun el1 e4 => ⟨v, fun op1 e5 => ?_⟩⟩⟩⟩
  rw [c] at e2 e3 e4 e5
  rw [hK p] at e2
  subst e2 e3 e4 e5
  refine pk_eq (K p) 2 (fun k2 => H43 (by omega)) fun n2 => pk_eq (K p) 4 (fun k4 => H43 (by omega)) fun n4 => pk_eq (K p) 5 (fun k5 => H43 (by omega)) fun n5 =>
    pk_eq (K p) 7 (fun k7 => H77 (by omega)) fun n7 => pk_eq (K p) 8 (fun k8 => H77 (by omega)) fun n8 => pk_eq (K p) 3 (fun k3 => H115 (by omega)) fun n3 => pk_eq (K p) 6 (fun k6 => H115 (by omega)) fun n6 => ?_
  refine h1 ⟨fun z => absurd z (by omega), fun z => absurd z (by omega), fun z => absurd z (by omega)⟩ _ _ _ _ _ ?_
  have e1 : ds_S K (p + 1) = ds_S K p := (if_neg (by omega)).trans (if_neg (by omega))
  have e2 : ds_E K (p + 1) = ds_E K p := if_neg (by omega)
  have e3 : ds_L K (p + 1) = ds_L K p := if_neg (by omega)
  unfold dx_A
  rw [e1, e2, e3]
  refine ⟨rfl, A2, E', L', fun q hq hk => ?_⟩
  have ne : q ≠ p := by intro z; subst z; omega
  exact O' _ q (by omega) hk
theorem dx_f42 {post : SX → Prop} (h : ∀ xg : Int32, xg = 0 → post (xl, xr, xg, xo, xn, xv, ki, va, ea, el, op, sk, be, co, me, ma, wa)) (hg : xg = 0) : wX_findStructure_42 post xl xr xg xo xn xv ki va ea el op sk be co me ma wa :=
  br_c (fun _ => h xg hg) (fun _ => h 0 rfl)
theorem dx_f12 {post : SX → Prop} {K : Nat → Nat} {n : Nat} (hK : ∀ j, ki j = nI (K j)) (hk9 : ∀ j, K j ≤ 9) (hn : n ≤ 40)
    (hs : ds_so K n → ∀ (xo : Int32) (ea el op sk : Nat → Int32), dx_A K n xo ea el op sk → post (nI n, xr, 1, xo, xn, xv, ki, va, ea, el, op, sk, be, co, me, ma, wa))
    (hb : ¬ ds_so K n → ∀ (xo : Int32) (ea el op sk : Nat → Int32), post (nI n, xr, 0, xo, xn, xv, ki, va, ea, el, op, sk, be, co, me, ma, wa)) :
    ∀ (d p m : Nat) (xo : Int32) (ea el op sk : Nat → Int32), p + d = n → d < m → ds_ok K p → dx_A K p xo ea el op sk → wX_findStructure_12 post m (nI p) (nI n) xr 1 xo xn xv ki va ea el op sk be co me ma wa := by
  intro d
  induction d with
  | zero =>
    intro p m xo ea el op sk hpd hm hok hA
    obtain ⟨m, rfl⟩ : ∃ k, m = k + 1 := ⟨m - 1, by omega⟩
    have hpn : p = n := by omega
    subst hpn
    rw [wX_findStructure_12]
    refine br_t (nI_le (Nat.le_refl _) (by omega)) ?_
    unfold wX_findStructure_42
    have hl := ds_Sl K p
    have hxo := hA.1
    cases hS : ds_S K p with
    | nil =>
      rw [hS] at hxo
      exact br_t (by rw [hxo]; decide) (hs ⟨hok, hS⟩ xo ea el op sk hA)
    | cons a s =>
      rw [hS] at hxo hl
      have hl' : s.length + 1 ≤ p := hl
      refine br_f (by rw [hxo]; exact nI_nle (Nat.succ_pos _) (by show s.length + 1 < 2 ^ 31; omega)) (hb (fun z => ?_) xo ea el op sk)
      exact absurd (hS.symm.trans z.2) (by simp)
  | succ d ih =>
    intro p m xo ea el op sk hpd hm hok hA
    obtain ⟨m, rfl⟩ : ∃ k, m = k + 1 := ⟨m - 1, by omega⟩
    obtain ⟨m, rfl⟩ : ∃ k, m = k + 1 := ⟨m - 1, by omega⟩
    rw [wX_findStructure_12]
    refine br_f (nI_ge (by omega) (by omega)) (br_f (by decide) ?_)
    refine dx_pt hK hk9 (by omega) hok hA (fun z xo ea el op sk hA' => ?_) (fun z xo ea el op sk => ?_)
    · refine ⟨narrow_b1, rfl, nm_r (nI_1 p) ?_⟩
      refine ih (p + 1) (m + 1) xo ea el op sk (by omega) (by omega) (fun q hq => ?_) hA'
      by_cases e : q = p
      · subst e; exact z
      · exact hok q (by omega)
    · refine ⟨narrow_b0, rfl, nm_r (nI_1 p) ?_⟩
      have hno : ¬ ds_so K n := fun y => z (y.1 p (by omega))
      rw [wX_findStructure_12]
      have hfin : wX_findStructure_42 post (nI n) xr 0 xo xn xv ki va ea el op sk be co me ma wa := br_c (fun _ => hb hno xo ea el op sk) (fun _ => hb hno xo ea el op sk)
      exact br_c (fun _ => hfin) (fun _ => br_t rfl hfin)
theorem dx_fs {post : SX → Prop} {K : Nat → Nat} {n : Nat} (hK : ∀ j, ki j = nI (K j)) (hk9 : ∀ j, K j ≤ 9) (hn : n ≤ 40)
    (hs : ds_so K n → ∀ (xo : Int32) (ea el op sk : Nat → Int32), dx_A K n xo ea el op sk → post (nI n, xr, 1, xo, xn, xv, ki, va, ea, el, op, sk, be, co, me, ma, wa))
    (hb : ¬ ds_so K n → ∀ (xo : Int32) (ea el op sk : Nat → Int32), post (nI n, xr, 0, xo, xn, xv, ki, va, ea, el, op, sk, be, co, me, ma, wa)) : wpX_findStructure post (nI n, xr, xg, xo, xn, xv, ki, va, ea, el, op, sk, be, co, me, ma, wa) := by
  unfold wpX_findStructure
  dsimp only
  exact ⟨n + 1, dx_f12 hK hk9 hn hs hb n 0 (n + 1) _ _ _ _ _ (by omega) (by omega) (fun q hq => absurd hq (by omega))
    ⟨rfl, trivial, fun q hq => absurd hq (by omega), fun q hq => absurd hq (by omega), fun q hq => absurd hq (by omega)⟩⟩
end
end
section
/-! the component's pass forward -/
section
variable {xl xr xg xo xn xv : Int32} {ki va ea el op sk be co me ma wa : Nat → Int32}
theorem dx_bn (b : Bool) : narrow .boolean (.int (dx_b b)) = .int (dx_b b) := by cases b <;> rfl
theorem dx_bf (b : Bool) : fits .boolean (.int (dx_b b)) = true := by cases b <;> rfl
theorem dx_bv (b : Bool) : vp_nar .boolean (dx_b b) = dx_b b := by cases b <;> rfl
theorem dx_b0 (b : Bool) : dx_b b = 0 ↔ b = false := by cases b <;> decide
theorem dx_ue {f : Nat → Int32} {a : Nat} {x : Int32} (h : f a = x) : upd f a x = f := funext fun j => by
  by_cases e : j = a
  · subst e; rw [pk_us, h]
  · rw [pk_un e]
theorem dx_uu {f : Nat → Int32} {a : Nat} {x y : Int32} : upd (upd f a y) a x = upd f a x := funext fun j => by
  by_cases e : j = a
  · subst e; rw [pk_us, pk_us]
  · rw [pk_un e, pk_un e, pk_un e]
/-- the mask of what g doesn't hold -/
def dx_k (g : Nat → Bool) : Int32 := dm_k (fun i => !(g i)) 6
theorem dx_kc {g h : Nat → Bool} (H : ∀ i, i < 6 → g i = h i) : dx_k g = dx_k h := dm_cg 6 (fun i hi => by rw [H i hi])
theorem dx_km (m c : Nat → Bool) : dx_k m &&& dx_k c = dx_k (fun i => m i || c i) := by
  unfold dx_k
  rw [dm_and]
  exact dm_cg 6 (fun i _ => by rw [Bool.not_or])
theorem dx_k0 : dx_k (fun _ => false) = 63 := dm_63
theorem dx_k1 : dx_k (fun _ => true) = 0 := dm_00
theorem dx_ks (c : Nat → Bool) {v : Nat} (hv : v < 6) : dx_k c ||| ((1 : Int32) <<< (nI v &&& 31)) = dx_k (fun i => c i && !decide (i = v)) := by
  unfold dx_k
  rw [dm_set _ hv]
  exact dm_cg 6 (fun i _ => by rw [Bool.not_and, Bool.not_not])
def dx_lv (c : Nat → Bool) : Prop := c 6 = false → ∀ i, i < 6 → c i = false
theorem dx_me {post : SX → Prop} {a : Nat} (c m : Nat → Bool) (ha : a < 40) (hl : dx_lv c) (hm : me a = dx_k m) (hma : ma a = dx_b (m 6))
    (h : post (xl, xr, xg, xo, dx_k c, dx_b (c 6), ki, va, ea, el, op, sk, be, co, upd me a (dx_k fun i => m i || c i), upd ma a (dx_b (m 6 || c 6)), wa)) : wpX_meetAt post (xl, xr, xg, xo, dx_k c, dx_b (c 6), ki, va, ea, el, op, sk, be, co, me, ma, wa) (nI a) := by
  unfold wpX_meetAt
  dsimp only
  have cl : (nI a).toNatClampNeg = a := nI_clamp (by omega)
  have v : vp_in (nI a) 40 := vp_in_nI ha (by decide)
  by_cases hc : c 6 = true
  · rw [hc] at h ⊢
    refine br_f (by decide) ⟨v, v, fun me1 e1 => ⟨v, fun ma1 e2 => ?_⟩⟩
    rw [cl] at e1 e2
    rw [hm, dx_km] at e1
    subst e1 e2
    rw [Bool.or_true] at h
    exact h
  · have hc : c 6 = false := Bool.eq_false_iff.mpr hc
    have e1 : upd me a (dx_k fun i => m i || c i) = me := dx_ue (hm.trans (dx_kc fun i hi => by rw [hl hc i hi, Bool.or_false]))
    have e2 : upd ma a (dx_b (m 6 || c 6)) = ma := dx_ue (hma.trans (by rw [hc, Bool.or_false]))
    rw [e1, e2] at h
    exact br_t ((dx_b0 _).mpr hc) h
theorem dx_tm {post : SX → Prop} {a : Nat} (m : Nat → Bool) (ha : a < 40) (hm : me a = dx_k m) (hma : ma a = dx_b (m 6))
    (h : post (xl, xr, xg, xo, dx_k m, dx_b (m 6), ki, va, ea, el, op, sk, be, co, me, ma, wa)) : wpX_takeMeeting post (xl, xr, xg, xo, xn, xv, ki, va, ea, el, op, sk, be, co, me, ma, wa) (nI a) := by
  unfold wpX_takeMeeting
  dsimp only
  have cl : (nI a).toNatClampNeg = a := nI_clamp (by omega)
  have v : vp_in (nI a) 40 := vp_in_nI ha (by decide)
  exact ⟨v, nm_r (e' := dx_k m) (by rw [cl, hm]) ⟨v, nm_r (e' := dx_b (m 6)) (by rw [cl, hma]) ⟨dx_bn _, dx_bf _, h⟩⟩⟩
theorem dx_tb {post : SX → Prop} {a : Nat} (f m : Nat → Bool) (ha : a < 40) (hl : dx_lv f) (hb : be a = dx_k f) (hco : co a = dx_b (f 6)) (hm : me a = dx_k m) (hma : ma a = dx_b (m 6))
    (h : post (xl, xr, xg, xo, dx_k f, dx_b (f 6), ki, va, ea, el, op, sk, be, co, upd me a (dx_k fun i => m i || f i), upd ma a (dx_b (m 6 || f 6)), wa)) : wpX_takeBack post (xl, xr, xg, xo, xn, xv, ki, va, ea, el, op, sk, be, co, me, ma, wa) (nI a) := by
  unfold wpX_takeBack
  dsimp only
  have cl : (nI a).toNatClampNeg = a := nI_clamp (by omega)
  have v : vp_in (nI a) 41 := vp_in_nI (by omega) (by decide)
  exact ⟨v, nm_r (e' := dx_k f) (by rw [cl, hb]) ⟨v, nm_r (e' := dx_b (f 6)) (by rw [cl, hco]) ⟨dx_bn _, dx_bf _, dx_me f m ha hl hm hma h⟩⟩⟩
theorem dx_e36 {post : SX → Prop} {p a : Nat} (m : Nat → Bool) (ha : a < 40) (hp : p < 41) (hm : me a = dx_k m) (hma : ma a = dx_b (m 6))
    (h : post (xl, xr, xg, xo, dx_k m, dx_b (m 6), ki, va, ea, el, op, sk, upd be p (dx_k m), upd co p (dx_b (m 6)), me, ma, wa)) : wX_forwardEnd_36 post (nI p) (nI a) xl xr xg xo xn xv ki va ea el op sk be co me ma wa := by
  unfold wX_forwardEnd_36
  have cl : (nI p).toNatClampNeg = p := nI_clamp (by omega)
  have v : vp_in (nI p) 41 := vp_in_nI hp (by decide)
  refine dx_tm m ha hm hma ?_
  exact ⟨v, nm_r (e' := upd be p (dx_k m)) (by rw [cl]) ⟨v, nm_r (e' := upd co p (dx_b (m 6))) (by rw [cl, dx_bv]) h⟩⟩
theorem dx_fi1 {post : SX → Prop} {p a : Nat} (c m f : Nat → Bool) (hp : p < 40) (ha : a < p) (hop : op p = nI a) (hk : ki a = 2) (hel : el a = dx_e 0) (lc : dx_lv c) (lf : dx_lv f) (hb : be a = dx_k f) (hco : co a = dx_b (f 6)) (hm : me a = dx_k m) (hma : ma a = dx_b (m 6))
    (h : post (xl, xr, xg, xo, dx_k fun i => (m i || c i) || f i, dx_b ((m 6 || c 6) || f 6), ki, va, ea, el, op, sk, upd be p (dx_k fun i => (m i || c i) || f i), upd co p (dx_b ((m 6 || c 6) || f 6)), upd me a (dx_k fun i => (m i || c i) || f i), upd ma a (dx_b ((m 6 || c 6) || f 6)), wa)) :
    wpX_forwardEnd post (xl, xr, xg, xo, dx_k c, dx_b (c 6), ki, va, ea, el, op, sk, be, co, me, ma, wa) (nI p) := by
  unfold wpX_forwardEnd
  dsimp only
  have cl : (nI p).toNatClampNeg = p := nI_clamp (by omega)
  have ca : (nI a).toNatClampNeg = a := nI_clamp (by omega)
  have v : vp_in (nI p) 40 := vp_in_nI (by omega) (by decide)
  have w : vp_in (nI a) 40 := vp_in_nI (by omega) (by decide)
  refine ⟨v, nm_r (e' := nI a) (by rw [cl, hop]) ⟨w, br_t (by rw [ca]; exact hk) ?_⟩⟩
  refine dx_me c m (by omega) lc hm hma ⟨w, br_f (show ¬ (0 : Int32) ≤ el (nI a).toNatClampNeg by rw [ca, hel]; decide) ?_⟩
  refine dx_tb f (fun i => m i || c i) (by omega) lf hb hco pk_us pk_us ?_
  refine dx_e36 (fun i => (m i || c i) || f i) (by omega) (by omega) pk_us pk_us ?_
  rw [dx_uu, dx_uu]
  exact h
theorem dx_fi2 {post : SX → Prop} {p a l : Nat} (c m : Nat → Bool) (hp : p < 40) (ha : a < p) (hop : op p = nI a) (hk : ki a = 2) (hl0 : l ≠ 0) (hl : l < 40) (hel : el a = dx_e l) (lc : dx_lv c) (hm : me a = dx_k m) (hma : ma a = dx_b (m 6))
    (h : post (xl, xr, xg, xo, dx_k fun i => (m i || c i), dx_b (m 6 || c 6), ki, va, ea, el, op, sk, upd be p (dx_k fun i => (m i || c i)), upd co p (dx_b (m 6 || c 6)), upd me a (dx_k fun i => (m i || c i)), upd ma a (dx_b (m 6 || c 6)), wa)) :
    wpX_forwardEnd post (xl, xr, xg, xo, dx_k c, dx_b (c 6), ki, va, ea, el, op, sk, be, co, me, ma, wa) (nI p) := by
  unfold wpX_forwardEnd
  dsimp only
  have cl : (nI p).toNatClampNeg = p := nI_clamp (by omega)
  have ca : (nI a).toNatClampNeg = a := nI_clamp (by omega)
  have v : vp_in (nI p) 40 := vp_in_nI (by omega) (by decide)
  have w : vp_in (nI a) 40 := vp_in_nI (by omega) (by decide)
  refine ⟨v, nm_r (e' := nI a) (by rw [cl, hop]) ⟨w, br_t (by rw [ca]; exact hk) ?_⟩⟩
  refine dx_me c m (by omega) lc hm hma ⟨w, br_t (show (0 : Int32) ≤ el (nI a).toNatClampNeg by rw [ca, hel, dx_en hl0]; exact nI_pos' (by omega)) ?_⟩
  exact dx_e36 (fun i => (m i || c i)) (by omega) (by omega) pk_us pk_us h
theorem dx_fi4 {post : SX → Prop} {p a : Nat} (c m f : Nat → Bool) (hp : p < 40) (ha : a < p) (hop : op p = nI a) (hk : ki a = 4) (lf : dx_lv f) (hb : be a = dx_k f) (hco : co a = dx_b (f 6)) (hm : me a = dx_k m) (hma : ma a = dx_b (m 6))
    (h : post (xl, xr, xg, xo, dx_k fun i => m i || f i, dx_b (m 6 || f 6), ki, va, ea, el, op, sk, upd be p (dx_k c), upd co p (dx_b (c 6)), upd me a (dx_k fun i => m i || f i), upd ma a (dx_b (m 6 || f 6)), wa)) :
    wpX_forwardEnd post (xl, xr, xg, xo, dx_k c, dx_b (c 6), ki, va, ea, el, op, sk, be, co, me, ma, wa) (nI p) := by
  unfold wpX_forwardEnd
  dsimp only
  have cl : (nI p).toNatClampNeg = p := nI_clamp (by omega)
  have ca : (nI a).toNatClampNeg = a := nI_clamp (by omega)
  have v : vp_in (nI p) 40 := vp_in_nI (by omega) (by decide)
  have v1 : vp_in (nI p) 41 := vp_in_nI (by omega) (by decide)
  have w : vp_in (nI a) 40 := vp_in_nI (by omega) (by decide)
  refine ⟨v, nm_r (e' := nI a) (by rw [cl, hop]) ⟨w, br_f (by rw [ca, hk]; decide) ?_⟩⟩
  refine ⟨v1, nm_r (e' := upd be p (dx_k c)) (by rw [cl]) ⟨v1, nm_r (e' := upd co p (dx_b (c 6))) (by rw [cl, dx_bv]) ?_⟩⟩
  unfold wpX_cutOff
  dsimp only
  refine ⟨w, br_t (by rw [ca]; exact hk) ?_⟩
  refine dx_tb f m (by omega) lf (by rw [pk_un (by omega)]; exact hb) (by rw [pk_un (by omega)]; exact hco) hm hma ?_
  exact dx_tm (fun i => m i || f i) (by omega) pk_us pk_us h
theorem dx_fi5 {post : SX → Prop} {p a : Nat} (c m : Nat → Bool) (hp : p < 40) (ha : a < p) (hop : op p = nI a) (hk : ki a = 5) (hm : me a = dx_k m) (hma : ma a = dx_b (m 6))
    (h : post (xl, xr, xg, xo, dx_k m, dx_b (m 6), ki, va, ea, el, op, sk, upd be p (dx_k c), upd co p (dx_b (c 6)), me, ma, wa)) :
    wpX_forwardEnd post (xl, xr, xg, xo, dx_k c, dx_b (c 6), ki, va, ea, el, op, sk, be, co, me, ma, wa) (nI p) := by
  unfold wpX_forwardEnd
  dsimp only
  have cl : (nI p).toNatClampNeg = p := nI_clamp (by omega)
  have ca : (nI a).toNatClampNeg = a := nI_clamp (by omega)
  have v : vp_in (nI p) 40 := vp_in_nI (by omega) (by decide)
  have v1 : vp_in (nI p) 41 := vp_in_nI (by omega) (by decide)
  have w : vp_in (nI a) 40 := vp_in_nI (by omega) (by decide)
  refine ⟨v, nm_r (e' := nI a) (by rw [cl, hop]) ⟨w, br_f (by rw [ca, hk]; decide) ?_⟩⟩
  refine ⟨v1, nm_r (e' := upd be p (dx_k c)) (by rw [cl]) ⟨v1, nm_r (e' := upd co p (dx_b (c 6))) (by rw [cl, dx_bv]) ?_⟩⟩
  unfold wpX_cutOff
  dsimp only
  refine ⟨w, br_f (by rw [ca, hk]; decide) ?_⟩
  exact dx_tm m (by omega) hm hma h
theorem dx_148a {post : SX → Prop} {k : Nat} (hk : k < 7) (h : post (xl, xr, xg, xo, xn, xv, ki, va, ea, el, op, sk, be, co, me, ma, wa)) : wX_forward_148 post (nI k) xl xr xg xo xn xv ki va ea el op sk be co me ma wa := br_t (nI_lt (b := 7) hk (by decide)) h
theorem dx_148b {post : SX → Prop} {k : Nat} (hk : 7 ≤ k) (hk2 : k ≤ 9) (h : post (xl, xr, xg, xo, 63, 0, ki, va, ea, el, op, sk, be, co, me, ma, wa)) : wX_forward_148 post (nI k) xl xr xg xo xn xv ki va ea el op sk be co me ma wa := br_f (nI_nlt (b := 7) hk (by omega)) h
theorem dx_132a {post : SX → Prop} {k : Nat} {x1 : Int32} (hk : k ≠ 7) (hk2 : k ≤ 9) (h : wX_forward_148 post (nI k) xl xr xg xo xn xv ki va ea el op sk be co me ma wa) : wX_forward_132 post x1 (nI k) xl xr xg xo xn xv ki va ea el op sk be co me ma wa :=
  pk_eq k 7 (fun z => absurd z hk) (fun _ => h)
theorem dx_132b {post : SX → Prop} {p a : Nat} (c m : Nat → Bool) (hp : p < 40) (ha : a < 40) (hop : op p = nI a) (lc : dx_lv c) (hm : me a = dx_k m) (hma : ma a = dx_b (m 6))
    (h : post (xl, xr, xg, xo, 63, 0, ki, va, ea, el, op, sk, be, co, upd me a (dx_k fun i => m i || c i), upd ma a (dx_b (m 6 || c 6)), wa)) : wX_forward_132 post (nI p) (nI 7) xl xr xg xo (dx_k c) (dx_b (c 6)) ki va ea el op sk be co me ma wa := by
  unfold wX_forward_132
  have cl : (nI p).toNatClampNeg = p := nI_clamp (by omega)
  refine br_t (by decide) ⟨vp_in_nI hp (by decide), ?_⟩
  rw [cl, hop]
  exact dx_me c m ha lc hm hma (dx_148b (by decide) (by decide) h)
theorem dx_87a {post : SX → Prop} {k : Nat} {x1 : Int32} (hk : k ≠ 3) (hk2 : k ≤ 9) (h : wX_forward_132 post x1 (nI k) xl xr xg xo xn xv ki va ea el op sk be co me ma wa) : wX_forward_87 post x1 (nI k) xl xr xg xo xn xv ki va ea el op sk be co me ma wa :=
  pk_eq k 3 (fun z => absurd z hk) (fun _ => h)
theorem dx_87b {post : SX → Prop} {p a : Nat} (c m f : Nat → Bool) (hp : p < 40) (ha : a < 40) (hop : op p = nI a) (lc : dx_lv c) (hm : me a = dx_k m) (hma : ma a = dx_b (m 6)) (hb : be a = dx_k f) (hco : co a = dx_b (f 6))
    (h : post (xl, xr, xg, xo, dx_k f, dx_b (f 6), ki, va, ea, el, op, sk, be, co, upd me a (dx_k fun i => m i || c i), upd ma a (dx_b (m 6 || c 6)), wa)) : wX_forward_87 post (nI p) (nI 3) xl xr xg xo (dx_k c) (dx_b (c 6)) ki va ea el op sk be co me ma wa := by
  unfold wX_forward_87
  have cl : (nI p).toNatClampNeg = p := nI_clamp (by omega)
  have ca : (nI a).toNatClampNeg = a := nI_clamp (by omega)
  have v : vp_in (nI p) 40 := vp_in_nI (by omega) (by decide)
  have w : vp_in (nI a) 41 := vp_in_nI (by omega) (by decide)
  refine br_t (by decide) ⟨v, ?_⟩
  rw [cl, hop]
  refine dx_me c m ha lc hm hma ?_
  dsimp only
  rw [hop, ca, hb, hco]
  exact ⟨v, w, nm_e ⟨v, w, nm_e ⟨dx_bn _, dx_bf _, dx_132a (by decide) (by decide) (dx_148a (by decide) h)⟩⟩⟩
theorem dx_67a {post : SX → Prop} {k : Nat} {x1 : Int32} (hk : ¬ dq_o k) (hk2 : k ≤ 9) (h : wX_forward_87 post x1 (nI k) xl xr xg xo xn xv ki va ea el op sk be co me ma wa) : wX_forward_67 post x1 (nI k) xl xr xg xo xn xv ki va ea el op sk be co me ma wa :=
  pk_eq k 2 (fun z => absurd (Or.inl z) hk) (fun _ => pk_eq k 4 (fun z => absurd (Or.inr (Or.inl z)) hk) (fun _ => pk_eq k 5 (fun z => absurd (Or.inr (Or.inr z)) hk) (fun _ => h)))
theorem dx_67b {post : SX → Prop} {p k : Nat} (hp : p < 40) (hk : dq_o k) (h : post (xl, xr, xg, xo, xn, xv, ki, va, ea, el, op, sk, be, co, upd me p (dx_k fun _ => false), upd ma p (dx_b false), wa)) : wX_forward_67 post (nI p) (nI k) xl xr xg xo xn xv ki va ea el op sk be co me ma wa := by
  have h82 : wX_forward_82 post (nI p) (nI k) xl xr xg xo xn xv ki va ea el op sk be co me ma wa := by
    unfold wX_forward_82 wpX_openAt
    dsimp only
    have cl : (nI p).toNatClampNeg = p := nI_clamp (by omega)
    have v : vp_in (nI p) 40 := vp_in_nI (by omega) (by decide)
    refine ⟨v, nm_r (e' := upd me p (dx_k fun _ => false)) (by rw [cl, dx_k0]) ⟨v, nm_r (e' := upd ma p (dx_b false)) (by rw [cl]; rfl) ?_⟩⟩
    exact dx_87a (by omega) (by omega) (dx_132a (by omega) (by omega) (dx_148a (by omega) h))
  exact br_c (fun _ => h82) (fun n2 => br_c (fun _ => h82) (fun n4 => br_c (fun _ => h82) (fun n5 => by
    rcases hk with z | z | z
    · exact absurd (by rw [z]; rfl) n2
    · exact absurd (by rw [z]; rfl) n4
    · exact absurd (by rw [z]; rfl) n5)))
/-! the channels: 0 .. 5 for the variables, 6 for what is reached at all -/
def dk_C (K V : Nat → Nat) (n p i : Nat) : Bool := df_C K (ds_O K) (ds_L K n) (ds_t K V i) p
def dk_F (K V : Nat → Nat) (n q i : Nat) : Bool := df_F K (ds_O K) (ds_L K n) (ds_t K V i) q
def dk_M (K V : Nat → Nat) (n p a i : Nat) : Bool := df_M K (ds_O K) (ds_L K n) (ds_t K V i) p a
def dx_B (K V : Nat → Nat) (n p : Nat) (xn xv : Int32) (be co me ma : Nat → Int32) : Prop :=
  xn = dx_k (dk_C K V n p) ∧ xv = dx_b (dk_C K V n p 6) ∧ (∀ q, q < p → be q = dx_k (dk_F K V n q) ∧ co q = dx_b (dk_F K V n q 6)) ∧
  (∀ a, a < p → dq_o (K a) → me a = dx_k (dk_M K V n p a) ∧ ma a = dx_b (dk_M K V n p a 6))
theorem dk_st {K V : Nat → Nat} (hV : ∀ q, K q = 0 → V q ≤ 5) (i : Nat) : ∀ q, ds_t K V 6 q = true → ds_t K V i q = true := by
  intro q h
  unfold ds_t at h
  have h := of_decide_eq_true h
  have := hV q h.1
  omega
theorem dk_nt {a b : Bool} (h : a = true → b = true) (hb : b = false) : a = false := by
  cases a with
  | false => rfl
  | true => rw [h rfl] at hb; exact absurd hb (by decide)
theorem dk_lC {K V : Nat → Nat} {n p : Nat} (hV : ∀ q, K q = 0 → V q ≤ 5) : dx_lv (dk_C K V n p) := fun h i _ => dk_nt (df_le (dk_st hV i) p).1 h
theorem dk_lF {K V : Nat → Nat} {n q : Nat} (hV : ∀ q, K q = 0 → V q ≤ 5) : dx_lv (dk_F K V n q) := fun h i _ => dk_nt ((df_le (dk_st hV i) (q + 1)).2.1 q) h
theorem df_Xe {K O L : Nat → Nat} {st : Nat → Bool} {p : Nat} (hO : O p < p) : df_X K O L st p = if K (O p) = 2 then (if L (O p) = 0 then (df_M K O L st p (O p) || df_C K O L st p) || df_F K O L st (O p) else df_M K O L st p (O p) || df_C K O L st p)
    else if K (O p) = 4 then df_M K O L st p (O p) || df_F K O L st (O p) else df_M K O L st p (O p) := by
  have hf := df_st (K := K) (O := O) (L := L) (st := st) p hO
  unfold df_X df_x
  rw [hf]
  rfl
theorem dx_Bq {K V : Nat → Nat} {n p : Nat} {g : Nat → Bool} (hq : ∀ q, q < p → be q = dx_k (dk_F K V n q) ∧ co q = dx_b (dk_F K V n q 6)) (hg : dk_F K V n p = g) :
    ∀ q, q < p + 1 → upd be p (dx_k g) q = dx_k (dk_F K V n q) ∧ upd co p (dx_b (g 6)) q = dx_b (dk_F K V n q 6) := by
  intro q h
  by_cases e : q = p
  · subst e; rw [pk_us, pk_us, hg]; exact ⟨rfl, rfl⟩
  · rw [pk_un e, pk_un e]; exact hq q (by omega)
end
end
section
/-! one token of the component's pass forward -/
section
variable {xl xr xg xo xn xv : Int32} {ki va ea el op sk be co me ma wa : Nat → Int32}
theorem dx_fw {post : SX → Prop} {K V : Nat → Nat} {n p : Nat} (hK : ∀ j, ki j = nI (K j)) (hk9 : ∀ j, K j ≤ 9) (hV : ∀ q, K q ≤ 1 → va q = nI (V q) ∧ V q ≤ 5) (hn : n ≤ 40) (hp : p < n) (hso : ds_so K n) (hA : dx_A K n xo ea el op sk) (hB : dx_B K V n p xn xv be co me ma)
    (h : ∀ (xn xv : Int32) (be co me ma : Nat → Int32), dx_B K V n (p + 1) xn xv be co me ma → post (xl, xr, xg, xo, xn, xv, ki, va, ea, el, op, sk, be, co, me, ma, wa)) : wpX_forward post (xl, xr, xg, xo, xn, xv, ki, va, ea, el, op, sk, be, co, me, ma, wa) (nI p) := by
  have hW := ds_so_W hso
  obtain ⟨w1, w2, w3, w4, w5, w6⟩ := hW
  obtain ⟨A1, A2, A3, A4, A5⟩ := hA
  obtain ⟨B1, B2, B3, B4⟩ := hB
  subst B1 B2
  have hV0 : ∀ q, K q = 0 → V q ≤ 5 := fun q hq => (hV q (by omega)).2
  have lc : dx_lv (dk_C K V n p) := dk_lC hV0
  have k9 := hk9 p
  have cl : (nI p).toNatClampNeg = p := nI_clamp (by omega)
  have v : vp_in (nI p) 40 := vp_in_nI (by omega) (by decide)
  have v1 : vp_in (nI p) 41 := vp_in_nI (by omega) (by decide)
  unfold wpX_forward
  dsimp only
  refine ⟨v, nm_r (e' := nI (K p)) (by rw [cl, hK p]) ?_⟩
  refine pk_eq (K p) 6 (fun k6 => ?_) (fun n6 => ?_)
  · obtain ⟨b1, b2, b3⟩ := w2 p hp k6
    have hop := A5 p hp (Or.inr (Or.inl k6))
    obtain ⟨m1, m2⟩ := B4 (ds_O K p) b1 b2
    obtain ⟨f1, f2⟩ := B3 (ds_O K p) b1
    have hel := A4 (ds_O K p) (by omega)
    have lf : dx_lv (dk_F K V n (ds_O K p)) := dk_lF hV0
    have Xe : ∀ i, dk_C K V n (p + 1) i = if K (ds_O K p) = 2 then (if ds_L K n (ds_O K p) = 0 then (dk_M K V n p (ds_O K p) i || dk_C K V n p i) || dk_F K V n (ds_O K p) i else dk_M K V n p (ds_O K p) i || dk_C K V n p i)
        else if K (ds_O K p) = 4 then dk_M K V n p (ds_O K p) i || dk_F K V n (ds_O K p) i else dk_M K V n p (ds_O K p) i := fun i => (df_c6 k6).trans (df_Xe b1)
    have Me : ∀ a, a ≠ ds_O K p → dk_M K V n (p + 1) a = dk_M K V n p a := fun a ne => funext fun i => by unfold dk_M; rw [df_m6 k6, df_bn ne]
    have Mo : dk_M K V n (p + 1) (ds_O K p) = dk_C K V n (p + 1) := funext fun i => by unfold dk_M dk_C; rw [df_m6 k6, df_bs, df_c6 k6]
    have Fx : K (ds_O K p) = 2 → dk_F K V n p = dk_C K V n (p + 1) := fun h2 => funext fun i => by unfold dk_F dk_C; rw [df_fx k6 h2, df_c6 k6]
    have Fc : K (ds_O K p) ≠ 2 → dk_F K V n p = dk_C K V n p := fun h2 => funext fun i => df_fc (fun z => h2 z.2)
    have MM : ∀ x : Nat → Bool, dk_C K V n (p + 1) = x → ∀ a, a < p + 1 → dq_o (K a) → upd me (ds_O K p) (dx_k x) a = dx_k (dk_M K V n (p + 1) a) ∧ upd ma (ds_O K p) (dx_b (x 6)) a = dx_b (dk_M K V n (p + 1) a 6) := by
      intro x hx a ha ho
      by_cases e : a = ds_O K p
      · rw [e, pk_us, pk_us, Mo, hx]; exact ⟨rfl, rfl⟩
      · have ne : a ≠ p := by intro z; subst z; omega
        rw [pk_un e, pk_un e, Me a e]; exact B4 a (by omega) ho
    by_cases h2 : K (ds_O K p) = 2
    · by_cases hl : ds_L K n (ds_O K p) = 0
      · have hx : dk_C K V n (p + 1) = fun i => (dk_M K V n p (ds_O K p) i || dk_C K V n p i) || dk_F K V n (ds_O K p) i := funext fun i => by rw [Xe i, if_pos h2, if_pos hl]
        refine dx_fi1 (dk_C K V n p) (dk_M K V n p (ds_O K p)) (dk_F K V n (ds_O K p)) (by omega) b1 hop (by rw [hK, h2]; rfl) (by rw [hel, hl]) lc lf f1 f2 m1 m2 ?_
        exact h _ _ _ _ _ _ ⟨by rw [hx], by rw [hx], dx_Bq B3 ((Fx h2).trans hx), MM _ hx⟩
      · have hx : dk_C K V n (p + 1) = fun i => (dk_M K V n p (ds_O K p) i || dk_C K V n p i) := funext fun i => by rw [Xe i, if_pos h2, if_neg hl]
        have hl2 := w5 _ hl
        refine dx_fi2 (dk_C K V n p) (dk_M K V n p (ds_O K p)) (by omega) b1 hop (by rw [hK, h2]; rfl) hl (by omega) hel lc m1 m2 ?_
        exact h _ _ _ _ _ _ ⟨by rw [hx], by rw [hx], dx_Bq B3 ((Fx h2).trans hx), MM _ hx⟩
    · by_cases h4 : K (ds_O K p) = 4
      · have hx : dk_C K V n (p + 1) = fun i => (dk_M K V n p (ds_O K p) i || dk_F K V n (ds_O K p) i) := funext fun i => by rw [Xe i, if_neg h2, if_pos h4]
        refine dx_fi4 (dk_C K V n p) (dk_M K V n p (ds_O K p)) (dk_F K V n (ds_O K p)) (by omega) b1 hop (by rw [hK, h4]; rfl) lf f1 f2 m1 m2 ?_
        exact h _ _ _ _ _ _ ⟨by rw [hx], by rw [hx], dx_Bq B3 (Fc h2), MM _ hx⟩
      · have h5 : K (ds_O K p) = 5 := by omega
        have hx : dk_C K V n (p + 1) = dk_M K V n p (ds_O K p) := funext fun i => by rw [Xe i, if_neg h2, if_neg h4]
        refine dx_fi5 (dk_C K V n p) (dk_M K V n p (ds_O K p)) (by omega) b1 hop (by rw [hK, h5]; rfl) m1 m2 ?_
        have MM' := MM _ hx
        rw [dx_ue m1, dx_ue m2] at MM'
        exact h _ _ _ _ _ _ ⟨by rw [hx], by rw [hx], dx_Bq B3 (Fc h2), MM'⟩
  · refine ⟨v1, nm_r (e' := upd be p (dx_k (dk_C K V n p))) (by rw [cl]) ⟨v1, nm_r (e' := upd co p (dx_b (dk_C K V n p 6))) (by rw [cl, dx_bv]) ?_⟩⟩
    have Fc : dk_F K V n p = dk_C K V n p := funext fun i => df_fc (fun z => n6 z.1)
    have BQ := dx_Bq (g := dk_C K V n p) B3 Fc
    refine pk_eq (K p) 0 (fun k0 => ?_) (fun n0 => ?_)
    · have hv := hV p (by omega)
      have Mk : ∀ a, dk_M K V n (p + 1) a = dk_M K V n p a := fun a => funext fun i => by unfold dk_M; rw [df_m1 n6 (by omega) (by omega)]
      have Ck : dk_C K V n (p + 1) = fun i => dk_C K V n p i && !decide (i = V p) := funext fun i => by
        refine (df_c0 k0).trans ?_
        have : ds_t K V i p = decide (i = V p) := by
          unfold ds_t
          exact decide_eq_decide.mpr ⟨fun z => z.2.symm, fun z => ⟨k0, z.symm⟩⟩
        rw [this]; rfl
      have C6 : dk_C K V n (p + 1) 6 = dk_C K V n p 6 := by
        rw [Ck]
        have : ¬ 6 = V p := by omega
        simp [this]
      have M4 : ∀ a, a < p + 1 → dq_o (K a) → me a = dx_k (dk_M K V n (p + 1) a) ∧ ma a = dx_b (dk_M K V n (p + 1) a 6) := by
        intro a ha ho
        have ne : a ≠ p := by intro z; subst z; omega
        rw [Mk a]; exact B4 a (by omega) ho
      by_cases hc : dk_C K V n p 6 = true
      · refine br_f (by rw [hc]; decide) ⟨v, nm_r (e' := dx_k (dk_C K V n (p + 1))) (by rw [cl, hv.1, dx_ks _ (by omega), Ck]) ?_⟩
        exact dx_67a (by omega) k9 (dx_87a (by omega) k9 (dx_132a (by omega) k9 (dx_148a (by omega) (h _ _ _ _ _ _ ⟨rfl, by rw [C6], BQ, M4⟩))))
      · have hc' : dk_C K V n p 6 = false := Bool.eq_false_iff.mpr hc
        refine br_t ((dx_b0 _).mpr hc') ?_
        exact dx_67a (by omega) k9 (dx_87a (by omega) k9 (dx_132a (by omega) k9 (dx_148a (by omega) (h _ _ _ _ _ _ ⟨dx_kc (fun i hi => by rw [Ck]; dsimp only; rw [lc hc' i hi, Bool.false_and]), by rw [C6], BQ, M4⟩))))
    · by_cases ho : dq_o (K p)
      · have Ck : dk_C K V n (p + 1) = dk_C K V n p := funext fun i => df_c1 n6 n0 (by omega) (by omega)
        have Mp : dk_M K V n (p + 1) p = fun _ => false := funext fun i => by unfold dk_M; rw [df_mo ho, df_bs]
        have Me : ∀ a, a ≠ p → dk_M K V n (p + 1) a = dk_M K V n p a := fun a ne => funext fun i => by unfold dk_M; rw [df_mo ho, df_bn ne]
        refine dx_67b (by omega) ho (h _ _ _ _ _ _ ⟨by rw [Ck], by rw [Ck], BQ, fun a ha hoa => ?_⟩)
        by_cases e : a = p
        · rw [e, pk_us, pk_us, Mp]; exact ⟨rfl, rfl⟩
        · rw [pk_un e, pk_un e, Me a e]; exact B4 a (by omega) hoa
      · by_cases k3 : K p = 3
        · obtain ⟨b1, b2, b3, b4, b5⟩ := w4 p hp k3
          have hop := A5 p hp (Or.inl k3)
          obtain ⟨m1, m2⟩ := B4 (ds_O K p) b1 (by omega)
          obtain ⟨f1, f2⟩ := B3 (ds_O K p) b1
          have Ck : dk_C K V n (p + 1) = dk_F K V n (ds_O K p) := funext fun i => df_c3 k3 b1
          have Mo : dk_M K V n (p + 1) (ds_O K p) = fun i => dk_M K V n p (ds_O K p) i || dk_C K V n p i := funext fun i => by unfold dk_M dk_C; rw [df_m3 (Or.inl k3), df_bs]
          have Me : ∀ a, a ≠ ds_O K p → dk_M K V n (p + 1) a = dk_M K V n p a := fun a ne => funext fun i => by unfold dk_M; rw [df_m3 (Or.inl k3), df_bn ne]
          refine dx_67a ho k9 ?_
          rw [k3]
          refine dx_87b (dk_C K V n p) (dk_M K V n p (ds_O K p)) (dk_F K V n (ds_O K p)) (by omega) (by omega) hop lc m1 m2 (by rw [pk_un (by omega)]; exact f1) (by rw [pk_un (by omega)]; exact f2) ?_
          refine h _ _ _ _ _ _ ⟨by rw [Ck], by rw [Ck], BQ, fun a ha hoa => ?_⟩
          by_cases e : a = ds_O K p
          · rw [e, pk_us, pk_us, Mo]; exact ⟨rfl, rfl⟩
          · have ne : a ≠ p := by intro z; subst z; exact ho hoa
            rw [pk_un e, pk_un e, Me a e]; exact B4 a (by omega) hoa
        · by_cases k7 : K p = 7
          · obtain ⟨b1, b2, b3⟩ := w6 p hp (Or.inl k7)
            have hop := A5 p hp (Or.inr (Or.inr (Or.inl k7)))
            obtain ⟨m1, m2⟩ := B4 (ds_O K p) b1 (by omega)
            have Ck : dk_C K V n (p + 1) = fun _ => false := funext fun i => df_c7 (Or.inl k7)
            have Mo : dk_M K V n (p + 1) (ds_O K p) = fun i => dk_M K V n p (ds_O K p) i || dk_C K V n p i := funext fun i => by unfold dk_M dk_C; rw [df_m3 (Or.inr k7), df_bs]
            have Me : ∀ a, a ≠ ds_O K p → dk_M K V n (p + 1) a = dk_M K V n p a := fun a ne => funext fun i => by unfold dk_M; rw [df_m3 (Or.inr k7), df_bn ne]
            refine dx_67a ho k9 (dx_87a k3 k9 ?_)
            rw [k7]
            refine dx_132b (dk_C K V n p) (dk_M K V n p (ds_O K p)) (by omega) (by omega) hop lc m1 m2 ?_
            refine h _ _ _ _ _ _ ⟨by rw [Ck, dx_k0], by rw [Ck]; rfl, BQ, fun a ha hoa => ?_⟩
            by_cases e : a = ds_O K p
            · rw [e, pk_us, pk_us, Mo]; exact ⟨rfl, rfl⟩
            · have ne : a ≠ p := by intro z; subst z; exact ho hoa
              rw [pk_un e, pk_un e, Me a e]; exact B4 a (by omega) hoa
          · have Mk : ∀ a, dk_M K V n (p + 1) a = dk_M K V n p a := fun a => funext fun i => by unfold dk_M; rw [df_m1 n6 ho (by omega)]
            have M4 : ∀ a, a < p + 1 → dq_o (K a) → me a = dx_k (dk_M K V n (p + 1) a) ∧ ma a = dx_b (dk_M K V n (p + 1) a 6) := by
              intro a ha hoa
              have ne : a ≠ p := by intro z; subst z; exact ho hoa
              rw [Mk a]; exact B4 a (by omega) hoa
            refine dx_67a ho k9 (dx_87a k3 k9 (dx_132a k7 k9 ?_))
            by_cases k8 : 7 ≤ K p
            · have Ck : dk_C K V n (p + 1) = fun _ => false := funext fun i => df_c7 (by omega)
              exact dx_148b k8 k9 (h _ _ _ _ _ _ ⟨by rw [Ck, dx_k0], by rw [Ck]; rfl, BQ, M4⟩)
            · have Ck : dk_C K V n (p + 1) = dk_C K V n p := funext fun i => df_c1 n6 n0 k3 (by omega)
              exact dx_148a (by omega) (h _ _ _ _ _ _ ⟨by rw [Ck], by rw [Ck], BQ, M4⟩)
end
end
section
/-! the component's passes backward -/
section
variable {xl xr xg xo xn xv : Int32} {ki va ea el op sk be co me ma wa : Nat → Int32}
/-- the ways on from a place of a sound program -/
def dg_n (K : Nat → Nat) (n : Nat) : Nat → Option Nat := dz_n K (ds_O K) (ds_E K n)
def dg_x (K : Nat → Nat) (n : Nat) : Nat → Option Nat := dz_x K (ds_E K n) (ds_L K n)
theorem dg_b {K : Nat → Nat} {n : Nat} (h : ds_so K n) : ∀ x, x < n → ∀ q, de_g (dg_n K n) (dg_x K n) x q → q ≤ n := dz_b (ds_so_W h)
/-- what the structure leaves in the component's arrays -/
def dx_Q (K : Nat → Nat) (n : Nat) (ea el op : Nat → Int32) : Prop :=
  (∀ q, q < n → ea q = dx_e (ds_E K n q)) ∧ (∀ q, q < n → el q = dx_e (ds_L K n q)) ∧ (∀ q, q < n → (K q = 3 ∨ K q = 6 ∨ K q = 7 ∨ K q = 8) → op q = nI (ds_O K q))
theorem dx_on {post : Int32 → Prop} {K : Nat → Nat} {n p : Nat} (hK : ∀ j, ki j = nI (K j)) (hk9 : ∀ j, K j ≤ 9) (hn : n ≤ 40) (hp : p < n) (hso : ds_so K n) (hQ : dx_Q K n ea el op)
    (h : post (nI ((dg_n K n p).getD n))) : wpX_onward post (nI n, xr, xg, xo, xn, xv, ki, va, ea, el, op, sk, be, co, me, ma, wa) (nI p) := by
  have hW := ds_so_W hso
  obtain ⟨w1, w2, w3, w4, w5, w6⟩ := hW
  obtain ⟨A3, A4, A5⟩ := hQ
  have k9 := hk9 p
  have cl : (nI p).toNatClampNeg = p := nI_clamp (by omega)
  have v : vp_in (nI p) 40 := vp_in_nI (by omega) (by decide)
  have H52 : (K p ≠ 3) → ¬ (K p = 6 ∧ K (ds_O K p) ≠ 2) → wX_onward_52 post (nI p) (nI (K p)) (nI n) xr xg xo xn xv ki va ea el op sk be co me ma wa := by
    intro n3 n6
    unfold wX_onward_52
    refine pk_eq (K p) 7 (fun k7 => ?_) fun n7 => pk_eq (K p) 8 (fun k8 => ?_) fun n8 => pk_eq (K p) 9 (fun k9 => ?_) fun n9 => ?_
    · have b := w6 p hp (Or.inl k7)
      have b2 := w1 (ds_O K p) (by omega) (by omega)
      have e : dg_n K n p = some (ds_E K n (ds_O K p) + 1) := (if_neg n3).trans ((if_neg n6).trans (if_pos k7))
      rw [e] at h
      rw [cl, A5 p hp (by omega), nI_clamp (by omega), A3 _ (by omega), dx_en (by omega), nI_1]
      exact ⟨v, vp_in_nI (by omega) (by decide), h⟩
    · have e : dg_n K n p = some (ds_O K p) := (if_neg n3).trans ((if_neg n6).trans ((if_neg n7).trans (if_pos k8)))
      rw [e] at h
      rw [cl, A5 p hp (by omega)]
      exact ⟨v, h⟩
    · have e : dg_n K n p = none := (if_neg n3).trans ((if_neg n6).trans ((if_neg n7).trans ((if_neg n8).trans (if_pos k9))))
      rw [e] at h
      exact h
    · have e : dg_n K n p = some (p + 1) := (if_neg n3).trans ((if_neg n6).trans ((if_neg n7).trans ((if_neg n8).trans (if_neg n9))))
      rw [e] at h
      rw [nI_1]
      exact h
  unfold wpX_onward
  dsimp only
  refine ⟨v, nm_r (e' := nI (K p)) (by rw [cl, hK p]) ?_⟩
  refine pk_eq (K p) 3 (fun k3 => ?_) fun n3 => pk_eq (K p) 6 (fun k6 => ?_) fun n6 => H52 n3 (fun z => n6 z.1)
  · have b := w4 p hp k3
    have b2 := w1 (ds_O K p) (by omega) (by omega)
    have e : dg_n K n p = some (ds_E K n (ds_O K p)) := if_pos k3
    rw [e] at h
    rw [cl, A5 p hp (by omega), nI_clamp (by omega), A3 _ (by omega), dx_en (by omega)]
    exact ⟨v, vp_in_nI (by omega) (by decide), h⟩
  · have b := w2 p hp k6
    have k9o := hk9 (ds_O K p)
    rw [cl, A5 p hp (by omega), nI_clamp (by omega), hK]
    refine ⟨v, vp_in_nI (by omega) (by decide), pk_eq (K (ds_O K p)) 2 (fun k2 => H52 n3 (fun z => z.2 k2)) (fun n2 => ⟨v, ?_⟩)⟩
    have e : dg_n K n p = some (ds_O K p) := (if_neg n3).trans (if_pos ⟨k6, n2⟩)
    rw [e] at h
    exact h
theorem dx_ow {post : Int32 → Prop} {K : Nat → Nat} {n p : Nat} (hK : ∀ j, ki j = nI (K j)) (hk9 : ∀ j, K j ≤ 9) (hn : n ≤ 40) (hp : p < n) (hso : ds_so K n) (hQ : dx_Q K n ea el op)
    (h : post (dx_o (dg_x K n p))) : wpX_otherWay post (xl, xr, xg, xo, xn, xv, ki, va, ea, el, op, sk, be, co, me, ma, wa) (nI p) := by
  have hW := ds_so_W hso
  obtain ⟨w1, w2, w3, w4, w5, w6⟩ := hW
  obtain ⟨A3, A4, A5⟩ := hQ
  have k9 := hk9 p
  have cl : (nI p).toNatClampNeg = p := nI_clamp (by omega)
  have v : vp_in (nI p) 40 := vp_in_nI (by omega) (by decide)
  unfold wpX_otherWay
  dsimp only
  rw [cl, hK p, A3 p hp, A4 p hp]
  refine ⟨v, pk_eq (K p) 4 (fun k4 => ⟨v, ?_⟩) fun n4 => ⟨v, pk_eq (K p) 2 (fun k2 => ⟨v, ?_⟩) fun n2 => ?_⟩⟩
  · have b := w1 p hp (by omega)
    have e : dg_x K n p = some (ds_E K n p + 1) := (if_neg (by omega)).trans (if_pos k4)
    rw [e] at h
    rw [dx_en (by omega), nI_1]
    exact h
  · have b := w1 p hp (by omega)
    have e : dg_x K n p = some (if ds_L K n p = 0 then ds_E K n p else ds_L K n p + 1) := if_pos k2
    rw [e] at h
    by_cases hl : ds_L K n p = 0
    · rw [if_pos hl] at h
      rw [hl, dx_en (e := ds_E K n p) (by omega)]
      exact br_t (by decide) ⟨v, h⟩
    · have b2 := w5 p hl
      rw [if_neg hl] at h
      rw [dx_en hl, nI_1]
      exact br_f (nI_pos (by omega)) ⟨v, h⟩
  · have e : dg_x K n p = none := (if_neg n2).trans (if_neg n4)
    rw [e] at h
    exact h
theorem dg_nl {K : Nat → Nat} {n p : Nat} (hso : ds_so K n) (hp : p < n) : (dg_n K n p).getD n ≤ n := by
  cases e : dg_n K n p with
  | none => exact Nat.le_refl n
  | some q => exact dg_b hso p hp q (Or.inl e)
theorem dx_wb {post : Int32 → Prop} {K : Nat → Nat} {n p : Nat} {w : Nat → Nat → Bool} (hK : ∀ j, ki j = nI (K j)) (hk9 : ∀ j, K j ≤ 9) (hn : n ≤ 40) (hp : p < n) (hso : ds_so K n) (hQ : dx_Q K n ea el op)
    (hw : ∀ q, q ≤ n → wa q = dm_k (w q) 6) (h : post (dm_k (dw_s n (dg_n K n) (dg_x K n) w p) 6)) : wpX_wantedBehind post (nI n, xr, xg, xo, xn, xv, ki, va, ea, el, op, sk, be, co, me, ma, wa) (nI p) := by
  unfold wpX_wantedBehind
  dsimp only
  have hl := dg_nl hso hp
  refine dx_on hK hk9 hn hp hso hQ ⟨vp_in_nI (by omega) (by decide), nm_r (e' := dm_k (w ((dg_n K n p).getD n)) 6) (by rw [nI_clamp (by omega), hw _ hl]) ?_⟩
  refine dx_ow hK hk9 hn hp hso hQ ?_
  cases e : dg_x K n p with
  | none =>
    refine br_f (show ¬ (0 : Int32) ≤ -1 by decide) ?_
    have : dm_k (dw_s n (dg_n K n) (dg_x K n) w p) 6 = dm_k (w ((dg_n K n p).getD n)) 6 := dm_cg 6 (fun i _ => by unfold dw_s; rw [e]; exact Bool.or_false _)
    rw [this] at h
    exact h
  | some o =>
    have ho := dg_b hso p hp o (Or.inr e)
    refine br_t (show (0 : Int32) ≤ nI o from nI_pos' (by omega)) ⟨show vp_in (nI o) 41 from vp_in_nI (by omega) (by decide), ?_⟩
    have : dm_k (dw_s n (dg_n K n) (dg_x K n) w p) 6 = dm_k (w ((dg_n K n p).getD n)) 6 ||| dm_k (w o) 6 := by
      rw [dm_or]
      exact dm_cg 6 (fun i _ => by unfold dw_s; rw [e])
    rw [this, ← hw o ho] at h
    show post (dm_k (w ((dg_n K n p).getD n)) 6 ||| wa (nI o).toNatClampNeg)
    rw [nI_clamp (by omega)]
    exact h
/-- what a pass has done: nothing changed, or a variable was added -/
def dx_P (n : Nat) (K V : Nat → Nat) (c j : Nat) (x1 : Int32) (w : Nat → Nat → Bool) : Prop :=
  (x1 = 0 ∧ c ≤ dw_c w ∧ ∀ q, j ≤ q → q < n → ∀ v, v < 6 → dw_G n (dg_n K n) (dg_x K n) K V w q v = w q v) ∨ (x1 = 1 ∧ c < dw_c w)
theorem dx_47 {post : SX → Prop} {J27 : Int32 → Int32 → (Nat → Int32) → (Nat → Int32) → (Nat → Int32) → (Nat → Int32) → (Nat → Int32) → (Nat → Int32) → (Nat → Int32) → (Nat → Int32) → (Nat → Int32) → (Nat → Int32) → (Nat → Int32) → Prop} {x2 : Int32}
    {K V : Nat → Nat} {n c : Nat} (hK : ∀ j, ki j = nI (K j)) (hk9 : ∀ j, K j ≤ 9) (hV : ∀ q, K q ≤ 1 → va q = nI (V q) ∧ V q ≤ 5) (hn : n ≤ 40) (hso : ds_so K n) (hQ : dx_Q K n ea el op)
    (hJ : ∀ (w : Nat → Nat → Bool) (wa : Nat → Int32) (x1 : Int32), dw_I n (dg_n K n) (dg_x K n) K V w → (∀ q, q ≤ n → wa q = dm_k (w q) 6) → dx_P n K V c 0 x1 w → J27 x1 (x2 + 1) ki va ea el op sk be co me ma wa) :
    ∀ (j m : Nat) (w : Nat → Nat → Bool) (wa : Nat → Int32) (x1 : Int32), j < m → j ≤ n → dw_I n (dg_n K n) (dg_x K n) K V w → (∀ q, q ≤ n → wa q = dm_k (w q) 6) → dx_P n K V c j x1 w →
      wX_backward_47 post J27 x2 (nI n) xr xg xo xn xv m x1 (nI j + (-1)) ki va ea el op sk be co me ma wa := by
  have hb := dg_b hso
  intro j
  induction j with
  | zero =>
    intro m w wa x1 hm _ hI hw hP
    obtain ⟨m, rfl⟩ : ∃ k, m = k + 1 := ⟨m - 1, by omega⟩
    rw [wX_backward_47]
    exact br_t (by decide) (nm_e (hJ w wa x1 hI hw hP))
  | succ p ih =>
    intro m w wa x1 hm hj hI hw hP
    obtain ⟨m, rfl⟩ : ∃ k, m = k + 1 := ⟨m - 1, by omega⟩
    have k9 := hk9 p
    have cl : (nI p).toNatClampNeg = p := nI_clamp (by omega)
    have v : vp_in (nI p) 40 := vp_in_nI (by omega) (by decide)
    have v1 : vp_in (nI p) 41 := vp_in_nI (by omega) (by decide)
    rw [pk_m1, wX_backward_47]
    refine br_f (nI_pos (by omega)) ?_
    refine dx_wb hK hk9 hn (by omega) hso hQ hw ?_
    rw [cl, hK p]
    have H105 : wX_backward_105 post J27 (wX_backward_47 post J27 x2 (nI n) xr xg xo xn xv m) x1 x2 (nI p) (dm_k (dw_G n (dg_n K n) (dg_x K n) K V w p) 6) (nI n) xr xg xo xn xv ki va ea el op sk be co me ma wa := by
      unfold wX_backward_105
      rw [cl, hw p (by omega)]
      refine ⟨v1, br_c (fun e => ⟨v1, nm_e (nm_e (ih m w _ x1 (by omega) (by omega) hI (fun q hq => ?_) ?_))⟩) (fun e => ⟨v1, nm_e (nm_e (ih m (dw_u w p (dw_G n (dg_n K n) (dg_x K n) K V w p)) _ 1 (by omega) (by omega) (dw_st hI hb (by omega)) (fun q hq => ?_) ?_))⟩)⟩
      · by_cases eq : q = p
        · rw [eq, pk_us]; exact e
        · rw [pk_un eq]; exact hw q hq
      · rcases hP with ⟨z1, z2, z3⟩ | z
        · refine Or.inl ⟨z1, z2, fun q h1 h2 => ?_⟩
          by_cases eq : q = p
          · rw [eq]; exact dm_inj e
          · exact z3 q (by omega) h2
        · exact Or.inr z
      · unfold dw_u
        by_cases eq : q = p
        · rw [eq, pk_us, if_pos rfl]
        · rw [pk_un eq, if_neg eq]; exact hw q hq
      · have hd : ∃ v, v < 6 ∧ dw_G n (dg_n K n) (dg_x K n) K V w p v ≠ w p v := by
          apply Classical.byContradiction
          intro z
          apply e
          refine dm_cg 6 (fun i hi => ?_)
          apply Classical.byContradiction
          intro y
          exact z ⟨i, hi, y⟩
        obtain ⟨u, hu, hd⟩ := hd
        have hc := dw_c1 hI hn (by omega) hu hd
        refine Or.inr ⟨rfl, ?_⟩
        rcases hP with ⟨z1, z2, z3⟩ | z
        · omega
        · have := z.2; omega
    refine ⟨v, pk_eq (K p) 0 (fun k0 => ⟨v, ?_⟩) (fun n0 => ?_)⟩
    · have hv := hV p (by omega)
      have e : dm_k (dw_G n (dg_n K n) (dg_x K n) K V w p) 6 = dm_k (fun i => dw_s n (dg_n K n) (dg_x K n) w p i && !decide (i = V p)) 6 := dm_cg 6 (fun i hi => by
        unfold dw_G
        by_cases ei : i = V p
        · rw [if_pos ⟨k0, ei⟩]; simp [ei]
        · rw [if_neg (fun z => ei z.2), if_neg (fun z => ei z.2)]; simp [ei])
      rw [hv.1]
      refine nm_r (e' := dm_k (dw_G n (dg_n K n) (dg_x K n) K V w p) 6) (by rw [dm_clr _ (by omega), e]) ?_
      unfold wX_backward_82
      rw [cl, hK p]
      exact ⟨v, pk_eq (K p) 1 (fun z => absurd z (by omega)) (fun _ => H105)⟩
    · unfold wX_backward_82
      rw [cl, hK p]
      refine ⟨v, pk_eq (K p) 1 (fun k1 => ⟨v, ?_⟩) (fun n1 => ?_)⟩
      · have hv := hV p (by omega)
        have e : dm_k (dw_G n (dg_n K n) (dg_x K n) K V w p) 6 = dm_k (fun i => dw_s n (dg_n K n) (dg_x K n) w p i || decide (i = V p)) 6 := dm_cg 6 (fun i hi => by
          unfold dw_G
          rw [if_neg (fun z => n0 z.1)]
          by_cases ei : i = V p
          · rw [if_pos ⟨k1, ei⟩]; simp [ei]
          · rw [if_neg (fun z => ei z.2)]; simp [ei])
        rw [hv.1]
        exact nm_r (e' := dm_k (dw_G n (dg_n K n) (dg_x K n) K V w p) 6) (by rw [dm_set _ (by omega), e]) H105
      · have e : dm_k (dw_G n (dg_n K n) (dg_x K n) K V w p) 6 = dm_k (dw_s n (dg_n K n) (dg_x K n) w p) 6 := dm_cg 6 (fun i hi => by
          unfold dw_G
          rw [if_neg (fun z => n0 z.1), if_neg (fun z => n1 z.1)])
        rw [← e]
        exact H105
theorem dx_27 {post : SX → Prop} {K V : Nat → Nat} {n : Nat} (hK : ∀ j, ki j = nI (K j)) (hk9 : ∀ j, K j ≤ 9) (hV : ∀ q, K q ≤ 1 → va q = nI (V q) ∧ V q ≤ 5) (hn : n ≤ 40) (hso : ds_so K n) (hQ : dx_Q K n ea el op)
    (hp : ∀ (w : Nat → Nat → Bool) (wa : Nat → Int32), dw_I n (dg_n K n) (dg_x K n) K V w → (∀ q, q ≤ n → wa q = dm_k (w q) 6) → (∀ q, q < n → ∀ v, v < 6 → dw_G n (dg_n K n) (dg_x K n) K V w q v = w q v) → post (nI n, xr, xg, xo, xn, xv, ki, va, ea, el, op, sk, be, co, me, ma, wa)) :
    ∀ (d k m : Nat) (w : Nat → Nat → Bool) (wa : Nat → Int32) (x1 : Int32), k + d = 241 → d < m → dw_I n (dg_n K n) (dg_x K n) K V w → (∀ q, q ≤ n → wa q = dm_k (w q) 6) →
      ((x1 = 0 ∧ ∀ q, q < n → ∀ v, v < 6 → dw_G n (dg_n K n) (dg_x K n) K V w q v = w q v) ∨ (x1 = 1 ∧ k ≤ dw_c w)) →
      wX_backward_27 post (nI n) xr xg xo xn xv m x1 (nI k) ki va ea el op sk be co me ma wa := by
  intro d
  induction d with
  | zero =>
    intro k m w wa x1 hk hm hI hw hP
    obtain ⟨m, rfl⟩ : ∃ j, m = j + 1 := ⟨m - 1, by omega⟩
    rw [wX_backward_27]
    rcases hP with z | z
    · exact br_t (nI_lt (a := 240) (by omega) (by omega)) (hp w wa hI hw z.2)
    · have := dw_cb w
      have := z.2
      omega
  | succ d ih =>
    intro k m w wa x1 hk hm hI hw hP
    obtain ⟨m, rfl⟩ : ∃ j, m = j + 1 := ⟨m - 1, by omega⟩
    rw [wX_backward_27]
    refine br_f (nI_nlt (b := k) (a := 240) (by omega) (by omega)) ?_
    rcases hP with z | z
    · exact br_t z.1 (hp w wa hI hw z.2)
    · refine br_f (by rw [z.1]; decide) (nm_r (Int32.sub_eq_add_neg _ _) ⟨n + 1, ?_⟩)
      refine dx_47 (c := dw_c w) hK hk9 hV hn hso hQ (fun w' wa' x1' hI' hw' hP' => ?_) n (n + 1) w wa 0 (by omega) (by omega) hI hw (Or.inl ⟨rfl, Nat.le_refl _, fun q h1 h2 => by omega⟩)
      rw [nI_1]
      refine ih (k + 1) m w' wa' x1' (by omega) (by omega) hI' hw' ?_
      rcases hP' with y | y
      · exact Or.inl ⟨y.1, fun q hq => y.2.2 q (by omega) hq⟩
      · exact Or.inr ⟨y.1, by have := y.2; have := z.2; omega⟩
theorem dx_bw {post : SX → Prop} {K V : Nat → Nat} {n : Nat} (hK : ∀ j, ki j = nI (K j)) (hk9 : ∀ j, K j ≤ 9) (hV : ∀ q, K q ≤ 1 → va q = nI (V q) ∧ V q ≤ 5) (hn : n ≤ 40) (hso : ds_so K n) (hQ : dx_Q K n ea el op)
    (hp : ∀ (wa : Nat → Int32), (∀ q, q ≤ n → wa q = dm_k (fun v => dB_p (dw_W n (dg_n K n) (dg_x K n) K V v q)) 6) → post (nI n, xr, xg, xo, xn, xv, ki, va, ea, el, op, sk, be, co, me, ma, wa)) : wpX_backward post (nI n, xr, xg, xo, xn, xv, ki, va, ea, el, op, sk, be, co, me, ma, wa) := by
  have L2 : ∀ (d k m : Nat) (wa : Nat → Int32), k + d = n + 1 → d < m → (∀ q, q < k → wa q = 0) → wX_backward_2 post (nI n) xr xg xo xn xv m (nI k) ki va ea el op sk be co me ma wa := by
    intro d
    induction d with
    | zero =>
      intro k m wa hk hm h0
      obtain ⟨m, rfl⟩ : ∃ j, m = j + 1 := ⟨m - 1, by omega⟩
      rw [wX_backward_2]
      refine br_t (nI_lt (by omega) (by omega)) ⟨242, ?_⟩
      refine dx_27 hK hk9 hV hn hso hQ (fun w wa hI hw hf => hp wa (fun q hq => ?_)) 241 0 242 (fun _ _ => false) wa 1 (by omega) (by omega) dw_I0 (fun q hq => ?_) (Or.inr ⟨rfl, Nat.zero_le _⟩)
      · rw [hw q hq]
        exact dm_cg 6 (fun i hi => dw_fix hI hf hq hi)
      · rw [dm_00]; exact h0 q (by omega)
    | succ d ih =>
      intro k m wa hk hm h0
      obtain ⟨m, rfl⟩ : ∃ j, m = j + 1 := ⟨m - 1, by omega⟩
      rw [wX_backward_2]
      refine br_f (nI_nlt (by omega) (by omega)) ⟨vp_in_nI (by omega) (by decide), nm_r (e' := upd wa k 0) (by rw [nI_clamp (by omega)]) (nm_r (nI_1 k) (ih (k + 1) m _ (by omega) (by omega) (fun q hq => ?_)))⟩
      by_cases e : q = k
      · rw [e, pk_us]
      · rw [pk_un e]; exact h0 q (by omega)
  unfold wpX_backward
  dsimp only
  exact ⟨n + 2, L2 (n + 1) 0 (n + 2) wa (by omega) (by omega) (fun q hq => absurd hq (by omega))⟩
end
end
section
/-! the component prepares -/
section
variable {xl xr xg xo xn xv : Int32} {ki va ea el op sk be co me ma wa : Nat → Int32}
/-- q is reached from a, not going on from sets of the variable i (6: from all) -/
def dg_R (K V : Nat → Nat) (n i a q : Nat) : Prop := dr_R n (de_g (dg_n K n) (dg_x K n)) (ds_t K V i) a q
def dg_W (K V : Nat → Nat) (n v p : Nat) : Prop := dw_W n (dg_n K n) (dg_x K n) K V v p
/-- what the component holds when it is ready and the program is sound -/
def dx_R (K V : Nat → Nat) (n : Nat) (ea el op be co wa : Nat → Int32) : Prop :=
  dx_Q K n ea el op ∧ (∀ q, q ≤ n → be q = dx_k (fun i => dB_p (dg_R K V n i 0 q)) ∧ co q = dx_b (dB_p (dg_R K V n 6 0 q))) ∧
  (∀ q, q ≤ n → wa q = dm_k (fun v => dB_p (dg_W K V n v q)) 6)
def dx_D (K V : Nat → Nat) (n : Nat) (xg : Int32) (ea el op be co wa : Nat → Int32) : Prop :=
  (ds_so K n ∧ xg = 1 ∧ dx_R K V n ea el op be co wa) ∨ (¬ ds_so K n ∧ xg = 0)
theorem dk_G1 {K V : Nat → Nat} {n q : Nat} (hso : ds_so K n) (hq : q < n) (i : Nat) : dk_F K V n q i = dB_p (dg_R K V n i 0 q) := by
  have h := df_main (st := ds_t K V i) (ds_so_W hso) (fun q h => (of_decide_eq_true h).1) (Nat.le_of_lt hq)
  unfold df_G at h
  rw [if_pos hq] at h
  exact h
theorem dk_G2 {K V : Nat → Nat} {n : Nat} (hso : ds_so K n) (i : Nat) : dk_C K V n n i = dB_p (dg_R K V n i 0 n) := by
  have h := df_main (st := ds_t K V i) (ds_so_W hso) (fun q h => (of_decide_eq_true h).1) (Nat.le_refl n)
  unfold df_G at h
  rw [if_neg (Nat.lt_irrefl n)] at h
  exact h
theorem dx_37 {post : SX → Prop} {K V : Nat → Nat} {n : Nat} (hK : ∀ j, ki j = nI (K j)) (hk9 : ∀ j, K j ≤ 9) (hV : ∀ q, K q ≤ 1 → va q = nI (V q) ∧ V q ≤ 5) (hn : n ≤ 40) (hso : ds_so K n) (hA : dx_A K n xo ea el op sk)
    (h : ∀ (xn xv : Int32) (be co me ma wa : Nat → Int32), dx_R K V n ea el op be co wa → post (nI n, xr, xg, xo, xn, xv, ki, va, ea, el, op, sk, be, co, me, ma, wa)) :
    ∀ (d p m : Nat) (xn xv : Int32) (be co me ma : Nat → Int32), p + d = n → d < m → dx_B K V n p xn xv be co me ma → wX_prepare_37 post m (nI p) (nI n) xr xg xo xn xv ki va ea el op sk be co me ma wa := by
  intro d
  induction d with
  | zero =>
    intro p m xn xv be co me ma hd hm hB
    obtain ⟨m, rfl⟩ : ∃ j, m = j + 1 := ⟨m - 1, by omega⟩
    have hp : p = n := by omega
    subst hp
    obtain ⟨B1, B2, B3, B4⟩ := hB
    subst B1 B2
    have cl : (nI p).toNatClampNeg = p := nI_clamp (by omega)
    have v : vp_in (nI p) 41 := vp_in_nI (by omega) (by decide)
    have hQ : dx_Q K p ea el op := ⟨hA.2.2.1, hA.2.2.2.1, hA.2.2.2.2⟩
    rw [wX_prepare_37]
    refine br_t (nI_le (Nat.le_refl _) (by omega)) ⟨v, nm_r (e' := upd be p (dx_k (dk_C K V p p))) (by rw [cl]) ⟨v, nm_r (e' := upd co p (dx_b (dk_C K V p p 6))) (by rw [cl, dx_bv]) ?_⟩⟩
    refine dx_bw hK hk9 hV hn hso hQ (fun wa hwa => h _ _ _ _ _ _ _ ⟨hQ, fun q hq => ?_, hwa⟩)
    by_cases e : q = p
    · rw [e, pk_us, pk_us, dk_G2 hso 6]
      exact ⟨dx_kc (fun i _ => dk_G2 hso i), rfl⟩
    · have b := B3 q (by omega)
      rw [pk_un e, pk_un e, b.1, b.2, dk_G1 hso (by omega) 6]
      exact ⟨dx_kc (fun i _ => dk_G1 hso (by omega) i), rfl⟩
  | succ d ih =>
    intro p m xn xv be co me ma hd hm hB
    obtain ⟨m, rfl⟩ : ∃ j, m = j + 1 := ⟨m - 1, by omega⟩
    rw [wX_prepare_37]
    refine br_f (nI_ge (by omega) (by omega)) ?_
    refine dx_fw hK hk9 hV hn (by omega) hso hA hB (fun xn xv be co me ma hB' => ?_)
    exact nm_r (nI_1 p) (ih (p + 1) m xn xv be co me ma (by omega) (by omega) hB')
theorem dx_pr {post : SX → Prop} {K V : Nat → Nat} {n : Nat} (hK : ∀ j, ki j = nI (K j)) (hk9 : ∀ j, K j ≤ 9) (hV : ∀ q, K q ≤ 1 → va q = nI (V q) ∧ V q ≤ 5) (hn : n ≤ 40)
    (hr : xr = 0 ∨ (xr = 1 ∧ dx_D K V n xg ea el op be co wa))
    (h : ∀ (xg xo xn xv : Int32) (ea el op sk be co me ma wa : Nat → Int32), dx_D K V n xg ea el op be co wa → post (nI n, 1, xg, xo, xn, xv, ki, va, ea, el, op, sk, be, co, me, ma, wa)) : wpX_prepare post (nI n, xr, xg, xo, xn, xv, ki, va, ea, el, op, sk, be, co, me, ma, wa) := by
  unfold wpX_prepare
  dsimp only
  rcases hr with hr | ⟨hr, hD⟩
  · refine br_t hr ?_
    refine dx_fs hK hk9 hn (fun hso xo ea el op sk hA => ?_) (fun hno xo ea el op sk => ?_)
    · refine br_f (show ¬ (1 : Int32) = 0 by decide) ⟨n + 1, ?_⟩
      refine dx_37 hK hk9 hV hn hso hA (fun xn xv be co me ma wa hR => h _ _ _ _ _ _ _ _ _ _ _ _ _ (Or.inl ⟨hso, rfl, hR⟩)) n 0 (n + 1) _ _ _ _ _ _ (by omega) (by omega) ?_
      exact ⟨dx_k1.symm, rfl, fun q hq => absurd hq (by omega), fun q hq => absurd hq (by omega)⟩
    · exact br_t rfl (h _ _ _ _ _ _ _ _ _ _ _ _ _ (Or.inr ⟨hno, rfl⟩))
  · refine br_f (by rw [hr]; decide) ?_
    have := h _ xo xn xv _ _ _ sk _ _ me ma _ hD
    rw [hr]
    exact this
end
end
section
/-! the reference's structure -/
section
variable {ki : Nat → Int32}
variable {ys : Int32} {vs en es cl lo yo : Nat → Int32}
theorem dy_in {post : Int32 → Prop} {K : Nat → Nat} (hK : ∀ j, ki j = nI (K j)) (hk9 : ∀ j, K j ≤ 9) : ∀ (s : List Nat) (n : Nat), s.length < n → s.length ≤ 40 → dx_S yo s → (∀ a, a ∈ s → a < 40) → post (dx_o (ds_l K s)) → wY_innermost_4 post ys ki vs en es cl lo yo n (nI s.length + (-1)) := by
  intro s
  induction s with
  | nil =>
    intro n hn _ _ _ hp
    obtain ⟨m, rfl⟩ : ∃ m, n = m + 1 := ⟨n - 1, by omega⟩
    have e : nI ([] : List Nat).length + (-1) = -1 := by decide
    rw [e, wY_innermost_4]
    exact br_t (by decide) hp
  | cons a s ih =>
    intro n hn hl hS ha hp
    obtain ⟨m, rfl⟩ : ∃ m, n = m + 1 := ⟨n - 1, by omega⟩
    have hl' : s.length + 1 ≤ 40 := hl
    have hn' : s.length + 1 < m + 1 := hn
    have e : nI (a :: s).length + (-1) = nI s.length := pk_m1 s.length
    have c : (nI s.length).toNatClampNeg = s.length := nI_clamp (by omega)
    have hs : yo s.length = nI a := hS.1
    have ha' := ha a List.mem_cons_self
    have ca : (nI a).toNatClampNeg = a := nI_clamp (by omega)
    have hd : ds_l K (a :: s) = if K a = 2 then ds_l K s else some a := rfl
    have k9 := hk9 a
    have v : vp_in (nI s.length) 40 := vp_in_nI (by omega) (by decide)
    rw [e, wY_innermost_4]
    refine br_f (nI_pos (by omega)) ⟨v, ?_⟩
    rw [c, hs, ca, hK a]
    refine ⟨vp_in_nI ha' (by decide), pk_eq (K a) 2 (fun h => ?_) (fun h => ?_)⟩
    · refine nm_e ?_
      refine ih m (by omega) (by omega) hS.2 (fun b hb => ha b (List.mem_cons_of_mem a hb)) ?_
      rw [hd, if_pos h] at hp; exact hp
    · refine ⟨v, ?_⟩
      rw [hd, if_neg h] at hp; exact hp
theorem dy_inn {post : Int32 → Prop} {K : Nat → Nat} (hK : ∀ j, ki j = nI (K j)) (hk9 : ∀ j, K j ≤ 9) (s : List Nat) (hl : s.length ≤ 40) (hS : dx_S yo s) (ha : ∀ a, a ∈ s → a < 40) (hp : post (dx_o (ds_l K s))) : wpY_innermost post (ys, ki, vs, en, es, cl, lo, yo) (nI s.length) := by
  unfold wpY_innermost
  dsimp only
  exact nm_r (Int32.sub_eq_add_neg _ _) ⟨s.length + 1, dy_in hK hk9 s (s.length + 1) (by omega) hl hS ha hp⟩
def dy_c (K : Nat → Nat) (q : Nat) : Int32 := if K (ds_O K q) = 2 then -1 else nI (ds_O K q)
/-- the reference's arrays after the places below p -/
def dy_A (K : Nat → Nat) (p : Nat) (en es cl lo yo : Nat → Int32) : Prop :=
  dx_S yo (ds_S K p) ∧ (∀ q, q < p → es q = dx_e (ds_L K p q)) ∧ (∀ q, q < p → K q = 6 → cl q = dy_c K q) ∧ (∀ q, q < p → lo q = dx_o (ds_l K (ds_S K q))) ∧
  (∀ a, dq_o (K a) → ds_E K p a ≠ 0 → en a = nI (ds_E K p a)) ∧ (∀ e, e < p → K e = 3 → ds_E K p (ds_O K e) ≠ 0 → en e = nI (ds_E K p (ds_O K e)))
theorem dy_cl {post : SY → Prop} {K : Nat → Nat} {p a l : Nat} (hK : ∀ j, ki j = nI (K j)) (hk9 : ∀ j, K j ≤ 9) (hp : p < 40) (ha : a < 40) (hl : l < 40) (hes : es a = dx_e l)
    (h1 : K a ≠ 2 → post (ys, ki, vs, upd en a (nI p), es, upd cl p (nI a), lo, yo)) (h2 : K a = 2 → l = 0 → post (ys, ki, vs, upd en a (nI p), es, cl, lo, yo)) (h3 : K a = 2 → l ≠ 0 → post (ys, ki, vs, upd (upd en a (nI p)) l (nI p), es, cl, lo, yo)) : wpY_close post (ys, ki, vs, en, es, cl, lo, yo) (nI a) (nI p) := by
  have ca : (nI a).toNatClampNeg = a := nI_clamp (by omega)
  have cp : (nI p).toNatClampNeg = p := nI_clamp (by omega)
  have va : vp_in (nI a) 40 := vp_in_nI ha (by decide)
  have vq : vp_in (nI p) 40 := vp_in_nI hp (by decide)
  have k9 := hk9 a
  unfold wpY_close
  dsimp only
  rw [ca, cp, hK a]
  refine ⟨va, nm_e ⟨va, pk_eq (K a) 2 (fun k2 => ?_) (fun n2 => ⟨vq, nm_e ?_⟩)⟩⟩
  · unfold wY_close_24
    rw [ca, hK a, hes]
    refine ⟨va, pk_eq (K a) 2 (fun _ => ⟨va, ?_⟩) (fun z => absurd k2 z)⟩
    by_cases e : l = 0
    · rw [e]
      exact br_t (by decide) (h2 k2 e)
    · rw [dx_en e]
      exact br_f (nI_pos (by omega)) ⟨va, vp_in_nI hl (by decide), nm_r (e' := upd (upd en a (nI p)) l (nI p)) (by rw [nI_clamp (by omega)]) (h3 k2 e)⟩
  · unfold wY_close_24
    rw [ca, hK a]
    exact ⟨va, pk_eq (K a) 2 (fun z => absurd z n2) (fun _ => h1 n2)⟩
theorem dy_35 {post : Int32 → SY → Prop} {J4 : Int32 → Int32 → Int32 → (Nat → Int32) → (Nat → Int32) → (Nat → Int32) → (Nat → Int32) → (Nat → Int32) → (Nat → Int32) → (Nat → Int32) → Prop} {K : Nat → Nat} {p : Nat} (hK : ∀ j, ki j = nI (K j)) (hk9 : ∀ j, K j ≤ 9) (hp : p < 40) (hok : ds_ok K p) (hA : dy_A K p en es cl lo yo)
    (h1 : ds_1 K p → ∀ (en es cl lo yo : Nat → Int32), dy_A K (p + 1) en es cl lo yo → J4 (nI (ds_S K (p + 1)).length) (nI (p + 1)) ys ki vs en es cl lo yo) (h0 : ¬ ds_1 K p → ∀ (en es cl lo yo : Nat → Int32), post 0 (ys, ki, vs, en, es, cl, lo, yo)) :
    wY_sound_35 post J4 (nI (ds_S K p).length) (nI p) (nI (K p)) (dx_o (ds_S K p).head?) ys ki vs en es cl lo yo := by
  have J := ds_Jp K p hok
  obtain ⟨j1, j2, j3, j5, j6, j7, j8, j9, j0⟩ := J
  obtain ⟨A1, A2, A3, A4, A5, A6⟩ := hA
  have Sl := ds_Sl K p
  have k9 := hk9 p
  have c : (nI p).toNatClampNeg = p := nI_clamp (by omega)
  have v : vp_in (nI p) 40 := vp_in_nI hp (by decide)
  have l0 : ds_L K p p = 0 := by
    apply Classical.byContradiction
    intro z
    have := j9 p z
    omega
  have L' : ∀ q, q < p + 1 → upd es p (-1) q = dx_e (ds_L K p q) := by
    intro q hq
    by_cases e : q = p
    · subst e; rw [pk_us, l0]; rfl
    · rw [pk_un e]; exact A2 q (by omega)
  have C' : ∀ (x : Int32) q, q < p → K q = 6 → upd cl p x q = dy_c K q := by
    intro x q hq hk
    rw [pk_un (by omega)]; exact A3 q hq hk
  have N' : ∀ q, q < p + 1 → upd lo p (dx_o (ds_l K (ds_S K p))) q = dx_o (ds_l K (ds_S K q)) := by
    intro q hq
    by_cases e : q = p
    · subst e; rw [pk_us]
    · rw [pk_un e]; exact A4 q (by omega)
  unfold wY_sound_35
  refine dy_inn hK hk9 (ds_S K p) (by omega) A1 (fun a ha => by have := (j1 a ha).1; omega) ?_
  refine ⟨v, nm_r (e' := upd lo p (dx_o (ds_l K (ds_S K p)))) (by rw [c]) ⟨v, nm_r (e' := upd es p (-1)) (by rw [c]) ⟨v, nm_r (e' := upd cl p (-1)) (by rw [c]) ?_⟩⟩⟩
  -- what neither opens nor closes nor is an ELSE
  have H0 : ¬ dq_o (K p) → K p ≠ 3 → K p ≠ 6 → (K p = 7 ∨ K p = 8 → ds_l K (ds_S K p) ≠ none) → J4 (nI (ds_S K p).length) (nI (p + 1)) ys ki vs en (upd es p (-1)) (upd cl p (-1)) (upd lo p (dx_o (ds_l K (ds_S K p)))) yo := by
    intro no n3 n6 h7
    have e1 : ds_S K (p + 1) = ds_S K p := (if_neg no).trans (if_neg n6)
    have e2 : ds_E K (p + 1) = ds_E K p := if_neg n6
    have e3 : ds_L K (p + 1) = ds_L K p := if_neg n3
    have := h1 ⟨fun z => absurd z n3, fun z => absurd z n6, h7⟩ en (upd es p (-1)) (upd cl p (-1)) (upd lo p (dx_o (ds_l K (ds_S K p)))) yo (by
      unfold dy_A
      rw [e1, e2, e3]
      refine ⟨A1, L', fun q hq hk => ?_, N', A5, fun e he hk => ?_⟩
      · have ne : q ≠ p := by intro z; subst z; exact n6 hk
        exact C' _ q (by omega) hk
      · have ne : e ≠ p := by intro z; subst z; exact n3 hk
        exact A6 e (by omega) hk)
    rw [e1] at this
    exact this
  have H77 : dq_o (K p) → wY_sound_77 post J4 (nI (ds_S K p).length) (nI p) ys ki vs en (upd es p (-1)) (upd cl p (-1)) (upd lo p (dx_o (ds_l K (ds_S K p)))) yo := by
    intro ho
    have e1 : ds_S K (p + 1) = p :: ds_S K p := if_pos ho
    have e2 : ds_E K (p + 1) = ds_E K p := if_neg (by omega)
    have e3 : ds_L K (p + 1) = ds_L K p := if_neg (by omega)
    unfold wY_sound_77
    refine ⟨vp_in_nI (by omega) (by decide), nm_r (e' := upd yo (ds_S K p).length (nI p)) (by rw [nI_clamp (by omega)]) (nm_r (nI_1 _) (nm_r (nI_1 _) ?_))⟩
    have := h1 ⟨fun z => absurd z (by omega), fun z => absurd z (by omega), fun z => absurd z (by omega)⟩ en (upd es p (-1)) (upd cl p (-1)) (upd lo p (dx_o (ds_l K (ds_S K p)))) (upd yo (ds_S K p).length (nI p)) (by
      unfold dy_A
      rw [e1, e2, e3]
      refine ⟨⟨pk_us, dx_Su (Nat.le_refl _) A1⟩, L', fun q hq hk => ?_, N', A5, fun e he hk => ?_⟩
      · have ne : q ≠ p := by intro z; subst z; omega
        exact C' _ q (by omega) hk
      · have ne : e ≠ p := by intro z; subst z; omega
        exact A6 e (by omega) hk)
    rw [e1] at this
    exact this
  have H172 : (K p = 7 ∨ K p = 8) → wY_sound_172 post J4 (nI (ds_S K p).length) (nI p) ys ki vs en (upd es p (-1)) (upd cl p (-1)) (upd lo p (dx_o (ds_l K (ds_S K p)))) yo := by
    intro h7
    unfold wY_sound_172
    rw [c, pk_us]
    refine ⟨v, ?_⟩
    cases hq : ds_l K (ds_S K p) with
    | none =>
      exact br_f (show ¬ (0 : Int32) ≤ -1 by decide) (h0 (fun z => z.2.2 h7 hq) _ _ _ _ _)
    | some b =>
      have hb := (j1 b (ds_lm hq).1).1
      refine br_t (show (0 : Int32) ≤ nI b from nI_pos' (by omega)) (nm_r (nI_1 p) ?_)
      rw [← hq]
      exact H0 (by omega) (by omega) (by omega) (fun _ => by rw [hq]; simp)
  refine pk_eq (K p) 2 (fun k2 => H77 (by omega)) fun n2 => pk_eq (K p) 4 (fun k4 => H77 (by omega)) fun n4 => pk_eq (K p) 5 (fun k5 => H77 (by omega)) fun n5 =>
    pk_eq (K p) 3 (fun k3 => ?_) fun n3 => pk_eq (K p) 6 (fun k6 => ?_) fun n6 => pk_eq (K p) 7 (fun k7 => H172 (by omega)) fun n7 => pk_eq (K p) 8 (fun k8 => H172 (by omega)) fun n8 =>
    nm_r (nI_1 p) (H0 (by omega) n3 n6 (fun z => absurd z (by omega)))
  · -- ELSE
    have eO : ds_O K p = ds_T K p := if_neg (by omega)
    cases hS : ds_S K p with
    | nil =>
      exact br_t (show (-1 : Int32) < 0 by decide) (h0 (fun z => (z.1 k3).1 hS) _ _ _ _ _)
    | cons a s =>
      have eT : ds_T K p = a := by unfold ds_T; rw [hS]; rfl
      rw [eT] at eO
      have ha := (j1 a (by rw [hS]; exact List.mem_cons_self)).1
      have ca : (nI a).toNatClampNeg = a := nI_clamp (by omega)
      have vina : vp_in (nI a) 40 := vp_in_nI (by omega) (by decide)
      have k9a := hk9 a
      have hla : upd es p (-1) a = dx_e (ds_L K p a) := L' a (by omega)
      have e1 : ds_S K (p + 1) = ds_S K p := (if_neg (by omega)).trans (if_neg (by omega))
      have e2 : ds_E K (p + 1) = ds_E K p := if_neg (by omega)
      have e3 : ds_L K (p + 1) = dn_u (ds_L K p) a p := (if_pos k3).trans (by rw [eT])
      refine br_f (show ¬ nI a < 0 from nI_pos (by omega)) ?_
      show vp_in (nI a) 40 ∧ _
      rw [show dx_o (a :: s).head? = nI a from rfl, ca, hK a, hla]
      refine ⟨vina, pk_eq (K a) 2 (fun ka => ⟨vina, ?_⟩) (fun na => h0 (fun z => ?_) _ _ _ _ _)⟩
      · by_cases hl : ds_L K p a = 0
        · rw [hl]
          refine br_t (show (-1 : Int32) < 0 by decide) ⟨vina, nm_e (nm_r (nI_1 p) ?_)⟩
          have := h1 ⟨fun _ => ⟨by rw [hS]; simp, by rw [eT]; exact ka, by rw [eT]; exact hl⟩, fun z => absurd z (by omega), fun z => absurd z (by omega)⟩ en (upd (upd es p (-1)) a (nI p)) (upd cl p (-1)) (upd lo p (dx_o (ds_l K (ds_S K p)))) yo (by
            unfold dy_A
            rw [e1, e2, e3]
            refine ⟨A1, fun q hq => ?_, fun q hq hk => ?_, N', A5, fun e he hk he2 => ?_⟩
            · by_cases e : q = a
              · subst e; rw [pk_us, dn_s, dx_en (by omega)]
              · rw [pk_un e, dn_n e]; exact L' q hq
            · have ne : q ≠ p := by intro z; subst z; omega
              exact C' _ q (by omega) hk
            · by_cases ne : e = p
              · subst ne
                rw [eO] at he2
                exact absurd (j1 a (by rw [hS]; exact List.mem_cons_self)).2.2 he2
              · exact A6 e (by omega) hk he2)
          rw [e1, hS] at this
          exact this
        · have hl2 := (j9 a hl).2.1
          rw [dx_en hl]
          refine br_f (nI_pos (by omega)) (h0 (fun z => ?_) _ _ _ _ _)
          have := (z.1 k3).2.2
          rw [eT] at this
          exact hl this
      · have := (z.1 k3).2.1
        rw [eT] at this
        exact na this
  · -- END
    have eO : ds_O K p = ds_T K p := if_neg (by omega)
    cases hS : ds_S K p with
    | nil =>
      exact br_f (show ¬ (0 : Int32) ≤ -1 by decide) (h0 (fun z => z.2.1 k6 hS) _ _ _ _ _)
    | cons a s =>
      have eT : ds_T K p = a := by unfold ds_T; rw [hS]; rfl
      rw [eT] at eO
      obtain ⟨ha, ho, hE0⟩ := j1 a (by rw [hS]; exact List.mem_cons_self)
      have hla : upd es p (-1) a = dx_e (ds_L K p a) := L' a (by omega)
      have hl40 : ds_L K p a < 40 := by
        rcases Nat.eq_zero_or_pos (ds_L K p a) with z | z
        · omega
        · have := (j9 a (by omega)).2.1
          omega
      have e1 : ds_S K (p + 1) = s := ((if_neg (by omega)).trans (if_pos k6)).trans (by rw [hS]; rfl)
      have e2 : ds_E K (p + 1) = dn_u (ds_E K p) a p := (if_pos k6).trans (by rw [eT])
      have e3 : ds_L K (p + 1) = ds_L K p := if_neg (by omega)
      have A1' : dx_S yo (a :: s) := by rw [← hS]; exact A1
      have fin : ∀ (en1 cl1 : Nat → Int32), (∀ q, q < p + 1 → K q = 6 → cl1 q = dy_c K q) → (∀ b, dq_o (K b) → dn_u (ds_E K p) a p b ≠ 0 → en1 b = nI (dn_u (ds_E K p) a p b)) →
          (∀ e, e < p + 1 → K e = 3 → dn_u (ds_E K p) a p (ds_O K e) ≠ 0 → en1 e = nI (dn_u (ds_E K p) a p (ds_O K e))) →
          J4 (nI s.length) (nI (p + 1)) ys ki vs en1 (upd es p (-1)) cl1 (upd lo p (dx_o (ds_l K (ds_S K p)))) yo := by
        intro en1 cl1 g1 g2 g3
        have := h1 ⟨fun z => absurd z (by omega), fun _ => by rw [hS]; simp, fun z => absurd z (by omega)⟩ en1 (upd es p (-1)) cl1 (upd lo p (dx_o (ds_l K (ds_S K p)))) yo (by
          unfold dy_A
          rw [e1, e2, e3]
          exact ⟨A1'.2, L', g1, N', g2, g3⟩)
        rw [e1] at this
        exact this
      have g1 : K a ≠ 2 → ∀ q, q < p + 1 → K q = 6 → upd (upd cl p (-1)) p (nI a) q = dy_c K q := by
        intro na q hq hk
        by_cases e : q = p
        · rw [e, pk_us]; unfold dy_c; rw [eO, if_neg na]
        · rw [pk_un e]; exact C' _ q (by omega) hk
      have g1' : K a = 2 → ∀ q, q < p + 1 → K q = 6 → upd cl p (-1) q = dy_c K q := by
        intro ka q hq hk
        by_cases e : q = p
        · rw [e, pk_us]; unfold dy_c; rw [eO, if_pos ka]
        · exact C' _ q (by omega) hk
      have g2 : ∀ b, dq_o (K b) → dn_u (ds_E K p) a p b ≠ 0 → upd en a (nI p) b = nI (dn_u (ds_E K p) a p b) := by
        intro b hb hE
        by_cases e : b = a
        · rw [e, pk_us, dn_s]
        · rw [dn_n e] at hE ⊢
          rw [pk_un e]; exact A5 b hb hE
      have g3 : (K a ≠ 2 ∨ ds_L K p a = 0) → ∀ e, e < p + 1 → K e = 3 → dn_u (ds_E K p) a p (ds_O K e) ≠ 0 → upd en a (nI p) e = nI (dn_u (ds_E K p) a p (ds_O K e)) := by
        intro hor e he hk hE
        have ne : e ≠ p := by intro z; subst z; omega
        have nea : e ≠ a := by intro z; subst z; omega
        have b := j7 e (by omega) hk
        have nO : ds_O K e ≠ a := by
          intro z
          rw [z] at b
          rcases hor with y | y
          · exact y b.2.1
          · have := b.2.2.1; omega
        rw [dn_n nO] at hE ⊢
        rw [pk_un nea]
        exact A6 e (by omega) hk hE
      refine br_t (show (0 : Int32) ≤ nI a from nI_pos' (by omega)) ?_
      show wpY_close _ _ (nI a) (nI p)
      rw [← hS]
      refine dy_cl (l := ds_L K p a) hK hk9 hp (by omega) hl40 hla (fun na => ?_) (fun ka hl => ?_) (fun ka hl => ?_)
      · exact nm_r (by rw [hS]; exact pk_m1 s.length) (nm_r (nI_1 p) (fin _ _ (g1 na) g2 (g3 (Or.inl na))))
      · exact nm_r (by rw [hS]; exact pk_m1 s.length) (nm_r (nI_1 p) (fin _ _ (g1' ka) g2 (g3 (Or.inr hl))))
      · refine nm_r (by rw [hS]; exact pk_m1 s.length) (nm_r (nI_1 p) (fin _ _ (g1' ka) (fun b hb hE => ?_) (fun e he hk hE => ?_)))
        · have nb : b ≠ ds_L K p a := by
            intro z
            have := (j9 a hl).2.2.1
            rw [← z] at this
            omega
          rw [pk_un nb]
          exact g2 b hb hE
        · have ne : e ≠ p := by intro z; subst z; omega
          by_cases eq : e = ds_L K p a
          · have := (j9 a hl).2.2.2
            rw [← eq] at this
            rw [← eq, pk_us, this, dn_s]
          · have nea : e ≠ a := by intro z; subst z; omega
            have b := j7 e (by omega) hk
            have nO : ds_O K e ≠ a := by
              intro z
              rw [z] at b
              exact eq b.2.2.1.symm
            rw [pk_un eq, pk_un nea]
            rw [dn_n nO] at hE ⊢
            exact A6 e (by omega) hk hE
/-- what the structure leaves in the reference's arrays -/
def dy_F (K : Nat → Nat) (n : Nat) (en es cl lo : Nat → Int32) : Prop :=
  (∀ q, q < n → es q = dx_e (ds_L K n q)) ∧ (∀ q, q < n → K q = 6 → cl q = dy_c K q) ∧ (∀ q, q < n → (K q = 7 ∨ K q = 8) → lo q = nI (ds_O K q)) ∧
  (∀ a, a < n → dq_o (K a) → en a = nI (ds_E K n a)) ∧ (∀ e, e < n → K e = 3 → en e = nI (ds_E K n (ds_O K e)))
theorem dy_AF {K : Nat → Nat} {n : Nat} (hso : ds_so K n) (hA : dy_A K n en es cl lo yo) : dy_F K n en es cl lo := by
  obtain ⟨A1, A2, A3, A4, A5, A6⟩ := hA
  obtain ⟨w1, w2, w3, w4, w5, w6⟩ := ds_so_W hso
  refine ⟨A2, A3, fun q hq hk => ?_, fun a ha ho => A5 a ho ?_, fun e he hk => A6 e he hk ?_⟩
  · have h := (hso.1 q hq).2.2 hk
    have eO : ds_O K q = (ds_l K (ds_S K q)).getD 0 := if_pos hk
    rw [A4 q hq, eO]
    cases e : ds_l K (ds_S K q) with
    | none => exact absurd e h
    | some b => rfl
  · have := w1 a ha ho
    omega
  · have b := w4 e he hk
    omega
theorem dy_4 {post : Int32 → SY → Prop} {K : Nat → Nat} {n : Nat} (hK : ∀ j, ki j = nI (K j)) (hk9 : ∀ j, K j ≤ 9) (hn : n ≤ 40)
    (hs : ds_so K n → ∀ (en es cl lo yo : Nat → Int32), dy_F K n en es cl lo → post 1 (nI n, ki, vs, en, es, cl, lo, yo)) (hb : ¬ ds_so K n → ∀ (en es cl lo yo : Nat → Int32), post 0 (nI n, ki, vs, en, es, cl, lo, yo)) :
    ∀ (d p m : Nat) (en es cl lo yo : Nat → Int32), p + d = n → d < m → ds_ok K p → dy_A K p en es cl lo yo → wY_sound_4 post m (nI (ds_S K p).length) (nI p) (nI n) ki vs en es cl lo yo := by
  intro d
  induction d with
  | zero =>
    intro p m en es cl lo yo hd hm hok hA
    obtain ⟨m, rfl⟩ : ∃ k, m = k + 1 := ⟨m - 1, by omega⟩
    have hpn : p = n := by omega
    subst hpn
    have hl := ds_Sl K p
    rw [wY_sound_4]
    refine br_t (nI_le (Nat.le_refl _) (by omega)) ?_
    cases hS : ds_S K p with
    | nil =>
      have hso : ds_so K p := ⟨hok, hS⟩
      exact br_t (show nI 0 = 0 by decide) (hs hso en es cl lo yo (dy_AF hso hA))
    | cons a s =>
      rw [hS] at hl
      have hl' : s.length + 1 ≤ p := hl
      exact br_f (nI_ne0 (Nat.succ_pos _) (by show s.length + 1 < 2 ^ 31; omega)) (hb (fun z => absurd (hS.symm.trans z.2) (by simp)) en es cl lo yo)
  | succ d ih =>
    intro p m en es cl lo yo hd hm hok hA
    obtain ⟨m, rfl⟩ : ∃ k, m = k + 1 := ⟨m - 1, by omega⟩
    have hl := ds_Sl K p
    have c : (nI p).toNatClampNeg = p := nI_clamp (by omega)
    have H := dy_35 (post := post) (J4 := wY_sound_4 post m) (ys := nI n) hK hk9 (by omega) hok hA (fun z en es cl lo yo hA' => ih (p + 1) m en es cl lo yo (by omega) (by omega) (fun q hq => by
      by_cases e : q = p
      · subst e; exact z
      · exact hok q (by omega)) hA') (fun z en es cl lo yo => hb (fun y => z (y.1 p (by omega))) en es cl lo yo)
    rw [wY_sound_4]
    refine br_f (nI_ge (by omega) (by omega)) ⟨vp_in_nI (by omega) (by decide), nm_r (e' := nI (K p)) (by rw [c, hK p]) ?_⟩
    have A1 := hA.1
    cases hS : ds_S K p with
    | nil =>
      rw [hS] at H
      exact br_t (show nI 0 ≤ 0 by decide) H
    | cons a s =>
      rw [hS] at H A1 hl
      have hl' : s.length + 1 ≤ p := hl
      have ep : nI (a :: s).length - 1 = nI s.length := nI_pred s.length
      refine br_f (nI_nle (Nat.succ_pos _) (by show s.length + 1 < 2 ^ 31; omega)) ?_
      rw [ep, nI_clamp (by omega), A1.1]
      exact ⟨vp_in_nI (by omega) (by decide), H⟩
theorem dy_so {post : Int32 → SY → Prop} {K : Nat → Nat} {n : Nat} (hK : ∀ j, ki j = nI (K j)) (hk9 : ∀ j, K j ≤ 9) (hn : n ≤ 40)
    (hs : ds_so K n → ∀ (en es cl lo yo : Nat → Int32), dy_F K n en es cl lo → post 1 (nI n, ki, vs, en, es, cl, lo, yo)) (hb : ¬ ds_so K n → ∀ (en es cl lo yo : Nat → Int32), post 0 (nI n, ki, vs, en, es, cl, lo, yo)) : wpY_sound post (nI n, ki, vs, en, es, cl, lo, yo) := by
  unfold wpY_sound
  dsimp only
  exact ⟨n + 1, dy_4 hK hk9 hn hs hb n 0 (n + 1) _ _ _ _ _ (by omega) (by omega) (fun q hq => absurd hq (by omega))
    ⟨trivial, fun q hq => absurd hq (by omega), fun q hq => absurd hq (by omega), fun q hq => absurd hq (by omega), fun a _ h => absurd rfl h, fun q hq => absurd hq (by omega)⟩⟩
end
end
section
/-! the reference's ways on, its search, its look for uses -/
section
variable {ki : Nat → Int32}
variable {ys : Int32} {vs en es cl lo yo : Nat → Int32}
theorem dy_nx {post : Int32 → Prop} {K : Nat → Nat} {n p : Nat} (hK : ∀ j, ki j = nI (K j)) (hk9 : ∀ j, K j ≤ 9) (hn : n ≤ 40) (hp : p < n) (hso : ds_so K n) (hF : dy_F K n en es cl lo)
    (h : post (dx_o (dg_n K n p))) : wpY_next post (ys, ki, vs, en, es, cl, lo, yo) (nI p) := by
  obtain ⟨w1, w2, w3, w4, w5, w6⟩ := ds_so_W hso
  obtain ⟨F1, F2, F3, F4, F5⟩ := hF
  have k9 := hk9 p
  have c : (nI p).toNatClampNeg = p := nI_clamp (by omega)
  have v : vp_in (nI p) 40 := vp_in_nI (by omega) (by decide)
  have H41 : K p ≠ 3 → ¬ (K p = 6 ∧ K (ds_O K p) ≠ 2) → wY_next_41 post (nI p) (nI (K p)) ys ki vs en es cl lo yo := by
    intro n3 n6
    have H70 : K p ≠ 7 → wY_next_70 post (nI p) (nI (K p)) ys ki vs en es cl lo yo := by
      intro n7
      unfold wY_next_70
      refine pk_eq (K p) 8 (fun k8 => ⟨v, ?_⟩) fun n8 => pk_eq (K p) 9 (fun k9 => ?_) fun n9 => ?_
      · have e : dg_n K n p = some (ds_O K p) := (if_neg n3).trans ((if_neg n6).trans ((if_neg n7).trans (if_pos k8)))
        rw [c, F3 p hp (by omega)]
        rw [e] at h
        exact h
      · have e : dg_n K n p = none := (if_neg n3).trans ((if_neg n6).trans ((if_neg n7).trans ((if_neg n8).trans (if_pos k9))))
        rw [e] at h
        exact h
      · have e : dg_n K n p = some (p + 1) := (if_neg n3).trans ((if_neg n6).trans ((if_neg n7).trans ((if_neg n8).trans (if_neg n9))))
        rw [e] at h
        rw [nI_1]
        exact h
    unfold wY_next_41
    refine pk_eq (K p) 7 (fun k7 => ⟨v, ?_⟩) H70
    have b := w6 p hp (Or.inl k7)
    have b2 := w1 (ds_O K p) (by omega) (by omega)
    have e : dg_n K n p = some (ds_E K n (ds_O K p) + 1) := (if_neg n3).trans ((if_neg n6).trans (if_pos k7))
    rw [e] at h
    rw [c, F3 p hp (by omega), nI_clamp (by omega), F4 _ (by omega) (by omega), nI_1]
    exact br_f (nI_pos (by omega)) ⟨v, vp_in_nI (by omega) (by decide), h⟩
  unfold wpY_next
  dsimp only
  refine ⟨v, nm_r (e' := nI (K p)) (by rw [c, hK p]) ?_⟩
  refine pk_eq (K p) 3 (fun k3 => ⟨v, ?_⟩) fun n3 => pk_eq (K p) 6 (fun k6 => ⟨v, ?_⟩) fun n6 => H41 n3 (fun z => n6 z.1)
  · have e : dg_n K n p = some (ds_E K n (ds_O K p)) := if_pos k3
    rw [e] at h
    rw [c, F5 p hp k3]
    exact h
  · have b := w2 p hp k6
    rw [c, F2 p hp k6]
    unfold dy_c
    by_cases k2 : K (ds_O K p) = 2
    · rw [if_pos k2]
      exact br_t (by decide) (H41 n3 (fun z => z.2 k2))
    · rw [if_neg k2]
      have e : dg_n K n p = some (ds_O K p) := (if_neg n3).trans (if_pos ⟨k6, k2⟩)
      rw [e] at h
      exact br_f (nI_pos (by omega)) ⟨v, h⟩
theorem dy_ot {post : Int32 → Prop} {K : Nat → Nat} {n p : Nat} (hK : ∀ j, ki j = nI (K j)) (hk9 : ∀ j, K j ≤ 9) (hn : n ≤ 40) (hp : p < n) (hso : ds_so K n) (hF : dy_F K n en es cl lo)
    (h : post (dx_o (dg_x K n p))) : wpY_other post (ys, ki, vs, en, es, cl, lo, yo) (nI p) := by
  obtain ⟨w1, w2, w3, w4, w5, w6⟩ := ds_so_W hso
  obtain ⟨F1, F2, F3, F4, F5⟩ := hF
  have k9 := hk9 p
  have c : (nI p).toNatClampNeg = p := nI_clamp (by omega)
  have v : vp_in (nI p) 40 := vp_in_nI (by omega) (by decide)
  unfold wpY_other
  dsimp only
  rw [c, hK p, F1 p hp]
  refine ⟨v, pk_eq (K p) 2 (fun k2 => ⟨v, ?_⟩) fun n2 => ⟨v, pk_eq (K p) 4 (fun k4 => ⟨v, ?_⟩) fun n4 => ?_⟩⟩
  · have b := w1 p hp (by omega)
    have e : dg_x K n p = some (if ds_L K n p = 0 then ds_E K n p else ds_L K n p + 1) := if_pos k2
    rw [e] at h
    by_cases hl : ds_L K n p = 0
    · rw [if_pos hl] at h
      rw [hl, F4 p hp (by omega)]
      exact br_t (by decide) ⟨v, h⟩
    · have b2 := w5 p hl
      rw [if_neg hl] at h
      rw [dx_en hl, nI_1]
      exact br_f (nI_pos (by omega)) ⟨v, h⟩
  · have e : dg_x K n p = some (ds_E K n p + 1) := (if_neg n2).trans (if_pos k4)
    rw [e] at h
    rw [F4 p hp (by omega), nI_1]
    exact h
  · have e : dg_x K n p = none := (if_neg n2).trans (if_neg n4)
    rw [e] at h
    exact h
theorem dy_bi {post : Int64 → Prop} {o : Option Nat} (hb : ∀ q, o = some q → q < 64) (h : post (dv_b o)) : wpY_bit post (ys, ki, vs, en, es, cl, lo, yo) (dx_o o) := by
  unfold wpY_bit
  dsimp only
  cases o with
  | none => exact br_f (show ¬ (0 : Int32) ≤ -1 by decide) h
  | some q => exact br_t (show (0 : Int32) ≤ nI q from nI_pos' (by have := hb q rfl; omega)) h
theorem dy_at {post : Int32 → Prop} {x : Int64} {q : Nat} (hq : q < 64) (h : post (dx_b (db_l x q))) : wpY_at post (ys, ki, vs, en, es, cl, lo, yo) x (nI q) := by
  unfold wpY_at
  dsimp only
  by_cases e : db_l x q = true
  · rw [e] at h
    exact br_t ((db_tst hq x).mpr e) h
  · rw [Bool.eq_false_iff.mpr e] at h
    exact br_f (fun z => e ((db_tst hq x).mp z)) h
theorem dy_51 {post : Int64 → Prop} {J6 J16 : Int64 → Int32 → Prop} {x3 x6 : Int32} {s : Int64} {st : Nat → Bool} {K : Nat → Nat} {n p : Nat} {z0 : Int32} (hK : ∀ j, ki j = nI (K j)) (hk9 : ∀ j, K j ≤ 9) (hn : n ≤ 40) (hp : p < n) (hso : ds_so K n) (hF : dy_F K n en es cl lo)
    (hz : z0 = dx_b (st p)) (h : J16 (dv_1 (dg_n K n) (dg_x K n) st s p) (nI (p + 1))) : wY_search_51 post J6 J16 x3 s x6 (nI p) z0 ys ki vs en es cl lo yo := by
  have hb := dg_b hso p hp
  unfold wY_search_51
  unfold dv_1 at h
  by_cases e : db_l s p = true
  · refine br_t ((db_tst (by omega) s).mpr e) ?_
    by_cases e2 : st p = true
    · rw [if_neg (fun z => by rw [e2] at z; exact absurd z.2 (by decide))] at h
      refine br_f (by rw [hz, e2]; decide) (nm_r (nI_1 p) h)
    · have e3 : st p = false := Bool.eq_false_iff.mpr e2
      rw [if_pos ⟨e, e3⟩] at h
      refine br_t (by rw [hz, e3]; rfl) ?_
      refine dy_nx hK hk9 hn hp hso hF ?_
      refine dy_ot hK hk9 hn hp hso hF ?_
      refine dy_bi (fun q hq => by have := hb q (Or.inl hq); omega) ?_
      refine dy_bi (fun q hq => by have := hb q (Or.inr hq); omega) ?_
      exact nm_e (nm_r (nI_1 p) h)
  · rw [if_neg (fun z => e z.1)] at h
    exact br_f (fun z => e ((db_tst (by omega) s).mp z)) (nm_r (nI_1 p) h)
theorem dy_16 {post : Int64 → Prop} {J6 : Int64 → Int32 → Prop} {x3 x6 : Int32} {s : Int64} {st : Nat → Bool} {K : Nat → Nat} {n : Nat} (hK : ∀ j, ki j = nI (K j)) (hk9 : ∀ j, K j ≤ 9) (hn : n ≤ 40) (hso : ds_so K n) (hF : dy_F K n en es cl lo)
    (hst : ∀ p, p < n → K p = 0 → (vs p = x3 ↔ st p = true)) (hst0 : ∀ p, p < n → K p ≠ 0 → st p = false) (h : J6 (dv_w (dg_n K n) (dg_x K n) st n s) (x6 + 1)) :
    ∀ (d p m : Nat), p + d = n → d < m → wY_search_16 post J6 x3 x6 (nI n) ki vs en es cl lo yo m (dv_w (dg_n K n) (dg_x K n) st p s) (nI p) := by
  intro d
  induction d with
  | zero =>
    intro p m hd hm
    obtain ⟨m, rfl⟩ : ∃ k, m = k + 1 := ⟨m - 1, by omega⟩
    have hpn : p = n := by omega
    subst hpn
    rw [wY_search_16]
    exact br_t (nI_le (Nat.le_refl _) (by omega)) (nm_e h)
  | succ d ih =>
    intro p m hd hm
    obtain ⟨m, rfl⟩ : ∃ k, m = k + 1 := ⟨m - 1, by omega⟩
    have c : (nI p).toNatClampNeg = p := nI_clamp (by omega)
    have v : vp_in (nI p) 40 := vp_in_nI (by omega) (by decide)
    have k9 := hk9 p
    have IH := ih (p + 1) m (by omega) (by omega)
    have H : ∀ z0 : Int32, z0 = dx_b (st p) → wY_search_51 post J6 (wY_search_16 post J6 x3 x6 (nI n) ki vs en es cl lo yo m) x3 (dv_w (dg_n K n) (dg_x K n) st p s) x6 (nI p) z0 (nI n) ki vs en es cl lo yo :=
      fun z0 hz => dy_51 hK hk9 hn (by omega) hso hF hz IH
    rw [wY_search_16]
    refine br_f (nI_ge (by omega) (by omega)) ⟨v, ?_⟩
    rw [c, hK p]
    refine pk_eq (K p) 0 (fun k0 => ⟨v, br_c (fun e => H 1 ?_) (fun e => H 0 ?_)⟩) (fun n0 => H 0 ?_)
    · rw [(hst p (by omega) k0).mp e]; rfl
    · rw [Bool.eq_false_iff.mpr (fun z => e ((hst p (by omega) k0).mpr z))]; rfl
    · rw [hst0 p (by omega) n0]; rfl
theorem dy_se {post : Int64 → Prop} {x3 : Int32} {a : Nat} {st : Nat → Bool} {K : Nat → Nat} {n : Nat} (hK : ∀ j, ki j = nI (K j)) (hk9 : ∀ j, K j ≤ 9) (hn : n ≤ 40) (hso : ds_so K n) (hF : dy_F K n en es cl lo)
    (hst : ∀ p, p < n → K p = 0 → (vs p = x3 ↔ st p = true)) (hst0 : ∀ p, p < n → K p ≠ 0 → st p = false) (ha : a ≤ n)
    (h : ∀ s : Int64, (∀ q, db_l s q = dB_p (dr_R n (de_g (dg_n K n) (dg_x K n)) st a q)) → post s) : wpY_search post (nI n, ki, vs, en, es, cl, lo, yo) (dv_b (some a)) x3 := by
  have L : ∀ (d k m : Nat), k + d = 41 → d < m → wY_search_6 post x3 (nI n) ki vs en es cl lo yo m (dv_k (dg_n K n) (dg_x K n) st n k (dv_b (some a))) (nI k) := by
    intro d
    induction d with
    | zero =>
      intro k m hd hm
      obtain ⟨m, rfl⟩ : ∃ j, m = j + 1 := ⟨m - 1, by omega⟩
      have hk : k = 41 := by omega
      subst hk
      rw [wY_search_6]
      exact br_t (by decide) (h _ (fun q => dB_e (dv_main hn ha (dg_b hso) q)))
    | succ d ih =>
      intro k m hd hm
      obtain ⟨m, rfl⟩ : ∃ j, m = j + 1 := ⟨m - 1, by omega⟩
      rw [wY_search_6]
      refine br_f (nI_ge (b := 41) (by omega) (by decide)) ⟨n + 1, ?_⟩
      refine dy_16 hK hk9 hn hso hF hst hst0 ?_ n 0 (n + 1) (by omega) (by omega)
      rw [nI_1]
      exact ih (k + 1) m (by omega) (by omega)
  unfold wpY_search
  dsimp only
  exact ⟨42, L 41 0 42 (by omega) (by omega)⟩
theorem dy_us {post : Int32 → Prop} {s : Int64} {x : Nat} {K V : Nat → Nat} {n : Nat} (hK : ∀ j, ki j = nI (K j)) (hk9 : ∀ j, K j ≤ 9) (hV : ∀ q, K q ≤ 1 → vs q = nI (V q) ∧ V q ≤ 5) (hn : n ≤ 40) (hx : x ≤ 5)
    (h : post (dx_b (dB_p (∃ q, q < n ∧ db_l s q = true ∧ K q = 1 ∧ V q = x)))) : wpY_uses post (nI n, ki, vs, en, es, cl, lo, yo) s (nI x) := by
  have L : ∀ (d p m : Nat), p + d = n → d < m → (∀ q, q < p → ¬ (db_l s q = true ∧ K q = 1 ∧ V q = x)) → wY_uses_3 post s (nI x) (nI n) ki vs en es cl lo yo m (nI p) := by
    intro d
    induction d with
    | zero =>
      intro p m hd hm hno
      obtain ⟨m, rfl⟩ : ∃ j, m = j + 1 := ⟨m - 1, by omega⟩
      have hp : p = n := by omega
      subst hp
      rw [wY_uses_3]
      have : dB_p (∃ q, q < p ∧ db_l s q = true ∧ K q = 1 ∧ V q = x) = false := dB_f.mpr (fun z => by obtain ⟨q, hq, y⟩ := z; exact hno q hq y)
      rw [this] at h
      exact br_t (nI_le (Nat.le_refl _) (by omega)) h
    | succ d ih =>
      intro p m hd hm hno
      obtain ⟨m, rfl⟩ : ∃ j, m = j + 1 := ⟨m - 1, by omega⟩
      have c : (nI p).toNatClampNeg = p := nI_clamp (by omega)
      have v : vp_in (nI p) 40 := vp_in_nI (by omega) (by decide)
      have k9 := hk9 p
      have IH : ¬ (db_l s p = true ∧ K p = 1 ∧ V p = x) → wY_uses_3 post s (nI x) (nI n) ki vs en es cl lo yo m (nI (p + 1)) := fun z => ih (p + 1) m (by omega) (by omega) (fun q hq => by
        by_cases e : q = p
        · rw [e]; exact z
        · exact hno q (by omega))
      rw [wY_uses_3]
      refine br_f (nI_ge (by omega) (by omega)) ?_
      refine dy_at (by omega) ?_
      by_cases e : db_l s p = true
      · rw [e]
        refine br_f (by decide) ⟨v, ?_⟩
        rw [c, hK p]
        refine pk_eq (K p) 1 (fun k1 => ⟨v, ?_⟩) (fun n1 => nm_r (nI_1 p) (IH (fun z => n1 z.2.1)))
        have hv := hV p (by omega)
        rw [hv.1]
        refine pk_eq (V p) x (fun ex => ?_) (fun nx => nm_r (nI_1 p) (IH (fun z => nx z.2.2)))
        have : dB_p (∃ q, q < n ∧ db_l s q = true ∧ K q = 1 ∧ V q = x) = true := dB_t.mpr ⟨p, by omega, e, k1, ex⟩
        rw [this] at h
        exact h
      · rw [Bool.eq_false_iff.mpr e]
        exact br_t (by decide) (nm_r (nI_1 p) (IH (fun z => e z.1)))
  unfold wpY_uses
  dsimp only
  exact ⟨n + 1, L n 0 (n + 1) (by omega) (by omega) (fun q hq => absurd hq (by omega))⟩
end
end
section
/-! the component's answers -/
noncomputable def dq_a (P : Prop) (x y : Int32) : Int32 := if dB_p P = true then x else y
theorem dq_at {P : Prop} {x y : Int32} (h : P) : dq_a P x y = x := if_pos (dB_t.mpr h)
theorem dq_af {P : Prop} {x y : Int32} (h : ¬ P) : dq_a P x y = y := if_neg (fun z => h (dB_t.mp z))
def dq_v (n : Nat) (x : Int32) : Prop := ∃ p, p < n ∧ x = nI p
/-- the set at q is idle -/
noncomputable def dq_i (K V : Nat → Nat) (n q : Nat) : Bool := decide (K q = 0) && (dB_p (dg_R K V n 6 0 q) && !dB_p (dg_W K V n (V q) (q + 1)))
/-- the use at q is in doubt -/
noncomputable def dq_d (K V : Nat → Nat) (n q : Nat) : Bool := decide (K q = 1) && dB_p (dg_R K V n (V q) 0 q)
theorem dg_R6 {K V : Nat → Nat} {n i a q : Nat} (hV : ∀ q, K q = 0 → V q ≤ 5) (h : dg_R K V n i a q) : dg_R K V n 6 a q := fun S h0 hc => h S h0 (fun x y hx hxn _ he => hc x y hx hxn (by
  unfold ds_t
  rw [decide_eq_false_iff_not]
  intro z
  have := hV x z.1
  omega) he)
/-- what the relation says of the parts -/
def dz_I (K V : Nat → Nat) (n : Nat) (xr xg : Int32) (ki va ea el op be co wa vs : Nat → Int32) : Prop :=
  n ≤ 40 ∧ (∀ j, ki j = nI (K j)) ∧ (∀ j, K j ≤ 9) ∧ (∀ q, K q ≤ 1 → va q = nI (V q) ∧ V q ≤ 5) ∧ (∀ q, K q ≤ 1 → vs q = nI (V q) ∧ V q ≤ 5) ∧ (xr = 0 ∨ (xr = 1 ∧ dx_D K V n xg ea el op be co wa))
section
variable {xl xr xg xo xn xv : Int32} {ki va ea el op sk be co me ma wa : Nat → Int32}
variable {vs : Nat → Int32} {K V : Nat → Nat} {n : Nat} {x : Int32}
theorem dq_ix (hn : n ≤ 40) (x : Int32) : (¬ dq_v n x ∧ (x < 0 ∨ (¬ x < 0 ∧ ¬ x < nI n))) ∨ ∃ p, p < n ∧ x = nI p := by
  by_cases h0 : x < 0
  · left
    refine ⟨fun z => ?_, Or.inl h0⟩
    obtain ⟨p, hp, rfl⟩ := z
    exact nI_pos (by omega) h0
  · obtain ⟨j, hj, rfl⟩ := nI_of h0
    by_cases h2 : j < n
    · exact Or.inr ⟨j, h2, rfl⟩
    · left
      refine ⟨fun z => ?_, Or.inr ⟨h0, nI_nlt (by omega) hj⟩⟩
      obtain ⟨p, hp, e⟩ := z
      rw [nI_eq hj (by omega)] at e
      omega
theorem dq_nt {post : Int32 → Prop} (hn : n ≤ 40) (h1 : ¬ dq_v n x → post 1) (h0 : ∀ p, p < n → x = nI p → post 0) : wpX_noToken post (nI n, xr, xg, xo, xn, xv, ki, va, ea, el, op, sk, be, co, me, ma, wa) x := by
  unfold wpX_noToken
  dsimp only
  rcases dq_ix hn x with ⟨hv, z | z⟩ | ⟨p, hp, rfl⟩
  · exact br_t z (h1 hv)
  · exact br_f z.1 (br_f z.2 (h1 hv))
  · exact br_f (nI_pos (by omega)) (br_t (nI_lt hp (by omega)) (h0 p hp rfl))
theorem dq_xso {post : Int32 → SX → Prop} (hI : dz_I K V n xr xg ki va ea el op be co wa vs)
    (h : ∀ (xr xg xo xn xv : Int32) (ea el op sk be co me ma wa : Nat → Int32), dz_I K V n xr xg ki va ea el op be co wa vs → post (dq_a (ds_so K n) 1 0) (nI n, xr, xg, xo, xn, xv, ki, va, ea, el, op, sk, be, co, me, ma, wa)) : wpX_sound post (nI n, xr, xg, xo, xn, xv, ki, va, ea, el, op, sk, be, co, me, ma, wa) := by
  obtain ⟨hn, hK, hk9, hV, hV', hr⟩ := hI
  unfold wpX_sound
  dsimp only
  refine dx_pr hK hk9 hV hn hr (fun xg xo xn xv ea el op sk be co me ma wa hD => ?_)
  have H := h 1 xg xo xn xv ea el op sk be co me ma wa ⟨hn, hK, hk9, hV, hV', Or.inr ⟨rfl, hD⟩⟩
  dsimp only
  rcases hD with ⟨hso, rfl, hR⟩ | ⟨hno, rfl⟩
  · rw [dq_at hso] at H
    exact ⟨narrow_b1, H⟩
  · rw [dq_af hno] at H
    exact ⟨narrow_b0, H⟩
theorem dq_xre {post : Int32 → SX → Prop} (hI : dz_I K V n xr xg ki va ea el op be co wa vs)
    (h : ∀ (xr xg xo xn xv : Int32) (ea el op sk be co me ma wa : Nat → Int32), dz_I K V n xr xg ki va ea el op be co wa vs → post (dq_a (ds_so K n) (dq_a (dq_v n x) (dx_b (dB_p (dg_R K V n 6 0 x.toNatClampNeg))) 0) 0) (nI n, xr, xg, xo, xn, xv, ki, va, ea, el, op, sk, be, co, me, ma, wa)) : wpX_reached post (nI n, xr, xg, xo, xn, xv, ki, va, ea, el, op, sk, be, co, me, ma, wa) x := by
  obtain ⟨hn, hK, hk9, hV, hV', hr⟩ := hI
  unfold wpX_reached
  dsimp only
  refine dx_pr hK hk9 hV hn hr (fun xg xo xn xv ea el op sk be co me ma wa hD => ?_)
  have H := h 1 xg xo xn xv ea el op sk be co me ma wa ⟨hn, hK, hk9, hV, hV', Or.inr ⟨rfl, hD⟩⟩
  dsimp only
  rcases hD with ⟨hso, rfl, hR⟩ | ⟨hno, rfl⟩
  · rw [dq_at hso] at H
    refine br_f (by decide) (dq_nt hn (fun hv => br_f (by decide) ?_) (fun p hp e => br_t rfl ?_))
    · rw [dq_af hv] at H; exact H
    · rw [dq_at ⟨p, hp, e⟩] at H
      subst e
      have c : (nI p).toNatClampNeg = p := nI_clamp (by omega)
      rw [c] at H ⊢
      rw [(hR.2.1 p (by omega)).2]
      refine ⟨vp_in_nI (by omega) (by decide), ?_⟩
      revert H
      cases dB_p (dg_R K V n 6 0 p) with
      | false => exact fun H => br_t (by decide) H
      | true => exact fun H => br_f (by decide) H
  · rw [dq_af hno] at H
    exact br_t rfl H
theorem dq_xsu {post : Int32 → SX → Prop} (hI : dz_I K V n xr xg ki va ea el op be co wa vs)
    (h : ∀ (xr xg xo xn xv : Int32) (ea el op sk be co me ma wa : Nat → Int32), dz_I K V n xr xg ki va ea el op be co wa vs → post (dq_a (ds_so K n) (dq_a (dq_v n x) (dx_k (fun i => dB_p (dg_R K V n i 0 x.toNatClampNeg))) (-5)) (-4)) (nI n, xr, xg, xo, xn, xv, ki, va, ea, el, op, sk, be, co, me, ma, wa)) : wpX_surely post (nI n, xr, xg, xo, xn, xv, ki, va, ea, el, op, sk, be, co, me, ma, wa) x := by
  obtain ⟨hn, hK, hk9, hV, hV', hr⟩ := hI
  unfold wpX_surely
  dsimp only
  refine dx_pr hK hk9 hV hn hr (fun xg xo xn xv ea el op sk be co me ma wa hD => ?_)
  have H := h 1 xg xo xn xv ea el op sk be co me ma wa ⟨hn, hK, hk9, hV, hV', Or.inr ⟨rfl, hD⟩⟩
  dsimp only
  rcases hD with ⟨hso, rfl, hR⟩ | ⟨hno, rfl⟩
  · rw [dq_at hso] at H
    refine br_f (by decide) (dq_nt hn (fun hv => br_f (by decide) ?_) (fun p hp e => br_t rfl ?_))
    · rw [dq_af hv] at H; exact H
    · rw [dq_at ⟨p, hp, e⟩] at H
      subst e
      have c : (nI p).toNatClampNeg = p := nI_clamp (by omega)
      rw [c] at H ⊢
      have v : vp_in (nI p) 41 := vp_in_nI (by omega) (by decide)
      rw [(hR.2.1 p (by omega)).2, (hR.2.1 p (by omega)).1]
      refine ⟨v, ?_⟩
      by_cases z : dg_R K V n 6 0 p
      · rw [dB_t.mpr z]
        exact br_f (by decide) ⟨v, H⟩
      · rw [dB_f.mpr z]
        have e : dx_k (fun i => dB_p (dg_R K V n i 0 p)) = 63 := by
          rw [← dx_k0]
          exact dx_kc (fun i _ => dB_f.mpr (fun y => z (dg_R6 (fun q hq => (hV q (by omega)).2) y)))
        rw [e] at H
        exact br_t (by decide) H
  · rw [dq_af hno] at H
    exact br_t rfl H
theorem dq_xco {post : Int32 → SX → Prop} (hI : dz_I K V n xr xg ki va ea el op be co wa vs)
    (h : ∀ (xr xg xo xn xv : Int32) (ea el op sk be co me ma wa : Nat → Int32), dz_I K V n xr xg ki va ea el op be co wa vs → post (dq_a (ds_so K n) (dx_b (dB_p (dg_R K V n 6 0 n))) 0) (nI n, xr, xg, xo, xn, xv, ki, va, ea, el, op, sk, be, co, me, ma, wa)) : wpX_completes post (nI n, xr, xg, xo, xn, xv, ki, va, ea, el, op, sk, be, co, me, ma, wa) := by
  obtain ⟨hn, hK, hk9, hV, hV', hr⟩ := hI
  unfold wpX_completes
  dsimp only
  refine dx_pr hK hk9 hV hn hr (fun xg xo xn xv ea el op sk be co me ma wa hD => ?_)
  have H := h 1 xg xo xn xv ea el op sk be co me ma wa ⟨hn, hK, hk9, hV, hV', Or.inr ⟨rfl, hD⟩⟩
  dsimp only
  rcases hD with ⟨hso, rfl, hR⟩ | ⟨hno, rfl⟩
  · rw [dq_at hso] at H
    have c : (nI n).toNatClampNeg = n := nI_clamp (by omega)
    rw [c, (hR.2.1 n (by omega)).2]
    refine br_f (by decide) ⟨vp_in_nI (by omega) (by decide), ?_⟩
    revert H
    cases dB_p (dg_R K V n 6 0 n) with
    | false => exact fun H => br_t (by decide) H
    | true => exact fun H => br_f (by decide) H
  · rw [dq_af hno] at H
    exact br_t rfl H
theorem dq_xwa {post : Int32 → SX → Prop} (hI : dz_I K V n xr xg ki va ea el op be co wa vs)
    (h : ∀ (xr xg xo xn xv : Int32) (ea el op sk be co me ma wa : Nat → Int32), dz_I K V n xr xg ki va ea el op be co wa vs → post (dq_a (ds_so K n) (dq_a (dq_v n x) (dm_k (fun v => dB_p (dg_W K V n v x.toNatClampNeg)) 6) (-5)) (-4)) (nI n, xr, xg, xo, xn, xv, ki, va, ea, el, op, sk, be, co, me, ma, wa)) : wpX_wanted post (nI n, xr, xg, xo, xn, xv, ki, va, ea, el, op, sk, be, co, me, ma, wa) x := by
  obtain ⟨hn, hK, hk9, hV, hV', hr⟩ := hI
  unfold wpX_wanted
  dsimp only
  refine dx_pr hK hk9 hV hn hr (fun xg xo xn xv ea el op sk be co me ma wa hD => ?_)
  have H := h 1 xg xo xn xv ea el op sk be co me ma wa ⟨hn, hK, hk9, hV, hV', Or.inr ⟨rfl, hD⟩⟩
  dsimp only
  rcases hD with ⟨hso, rfl, hR⟩ | ⟨hno, rfl⟩
  · rw [dq_at hso] at H
    refine br_f (by decide) (dq_nt hn (fun hv => br_f (by decide) ?_) (fun p hp e => br_t rfl ?_))
    · rw [dq_af hv] at H; exact H
    · rw [dq_at ⟨p, hp, e⟩] at H
      subst e
      have c : (nI p).toNatClampNeg = p := nI_clamp (by omega)
      rw [c] at H ⊢
      rw [hR.2.2 p (by omega)]
      exact ⟨vp_in_nI (by omega) (by decide), H⟩
  · rw [dq_af hno] at H
    exact br_t rfl H
theorem ds_Eo (K : Nat → Nat) : ∀ p, ds_ok K p → ∀ q, ds_E K p q ≠ 0 → dq_o (K q) := by
  intro p
  induction p with
  | zero => intro _ q h; exact absurd rfl h
  | succ p ih =>
    intro hok q h
    have hok' : ds_ok K p := fun q hq => hok q (by omega)
    by_cases h6 : K p = 6
    · have e2 : ds_E K (p + 1) = dn_u (ds_E K p) (ds_T K p) p := if_pos h6
      rw [e2] at h
      by_cases e : q = ds_T K p
      · have hne := (hok p (by omega)).2.1 h6
        rw [e]
        unfold ds_T
        cases hS : ds_S K p with
        | nil => exact absurd hS hne
        | cons a s => exact ((ds_Jp K p hok').1 a (by rw [hS]; exact List.mem_cons_self)).2.1
      · rw [dn_n e] at h
        exact ih hok' q h
    · have e2 : ds_E K (p + 1) = ds_E K p := if_neg h6
      rw [e2] at h
      exact ih hok' q h
theorem dq_xen {post : Int32 → SX → Prop} (hI : dz_I K V n xr xg ki va ea el op be co wa vs)
    (h : ∀ (xr xg xo xn xv : Int32) (ea el op sk be co me ma wa : Nat → Int32), dz_I K V n xr xg ki va ea el op be co wa vs → post (dq_a (ds_so K n) (dq_a (dq_v n x) (dq_a (dq_o (K x.toNatClampNeg)) (nI (ds_E K n x.toNatClampNeg)) (-5)) (-5)) (-4)) (nI n, xr, xg, xo, xn, xv, ki, va, ea, el, op, sk, be, co, me, ma, wa)) : wpX_endOf post (nI n, xr, xg, xo, xn, xv, ki, va, ea, el, op, sk, be, co, me, ma, wa) x := by
  obtain ⟨hn, hK, hk9, hV, hV', hr⟩ := hI
  unfold wpX_endOf
  dsimp only
  refine dx_pr hK hk9 hV hn hr (fun xg xo xn xv ea el op sk be co me ma wa hD => ?_)
  have H := h 1 xg xo xn xv ea el op sk be co me ma wa ⟨hn, hK, hk9, hV, hV', Or.inr ⟨rfl, hD⟩⟩
  dsimp only
  rcases hD with ⟨hso, rfl, hR⟩ | ⟨hno, rfl⟩
  · rw [dq_at hso] at H
    refine br_f (by decide) (dq_nt hn (fun hv => br_f (by decide) ?_) (fun p hp e => br_t rfl ?_))
    · rw [dq_af hv] at H; exact H
    · rw [dq_at ⟨p, hp, e⟩] at H
      subst e
      have c : (nI p).toNatClampNeg = p := nI_clamp (by omega)
      rw [c] at H ⊢
      have v : vp_in (nI p) 40 := vp_in_nI (by omega) (by decide)
      rw [hR.1.1 p hp]
      refine ⟨v, ?_⟩
      by_cases ho : dq_o (K p)
      · have b := (ds_so_W hso).1 p hp ho
        rw [dq_at ho] at H
        rw [dx_en (by omega)]
        exact br_t (nI_pos' (by omega)) ⟨v, H⟩
      · have e0 : ds_E K n p = 0 := by
          apply Classical.byContradiction
          intro z
          exact ho (ds_Eo K n hso.1 p z)
        rw [dq_af ho] at H
        rw [e0]
        exact br_f (by decide) H
  · rw [dq_af hno] at H
    exact br_t rfl H
theorem dc_b (f : Nat → Bool) {p n : Nat} (h : p ≤ n) (hn : n ≤ 40) : dc_n f p < 2 ^ 31 := by
  have := dc_le f p
  omega
theorem dq_xdo {post : Int32 → SX → Prop} (hI : dz_I K V n xr xg ki va ea el op be co wa vs)
    (h : ∀ (xr xg xo xn xv : Int32) (ea el op sk be co me ma wa : Nat → Int32), dz_I K V n xr xg ki va ea el op be co wa vs → post (dq_a (ds_so K n) (nI (dc_n (dq_d K V n) n)) (-4)) (nI n, xr, xg, xo, xn, xv, ki, va, ea, el, op, sk, be, co, me, ma, wa)) : wpX_doubts post (nI n, xr, xg, xo, xn, xv, ki, va, ea, el, op, sk, be, co, me, ma, wa) := by
  obtain ⟨hn, hK, hk9, hV, hV', hr⟩ := hI
  unfold wpX_doubts
  dsimp only
  refine dx_pr hK hk9 hV hn hr (fun xg xo xn xv ea el op sk be co me ma wa hD => ?_)
  have H := h 1 xg xo xn xv ea el op sk be co me ma wa ⟨hn, hK, hk9, hV, hV', Or.inr ⟨rfl, hD⟩⟩
  dsimp only
  rcases hD with ⟨hso, rfl, hR⟩ | ⟨hno, rfl⟩
  · rw [dq_at hso] at H
    refine br_f (by decide) ⟨n + 1, ?_⟩
    have L : ∀ (d p m : Nat), p + d = n → d < m → wX_doubts_18 post (nI n) 1 1 xo xn xv ki va ea el op sk be co me ma wa m (nI (dc_n (dq_d K V n) p)) (nI p) := by
      intro d
      induction d with
      | zero =>
        intro p m hd hm
        obtain ⟨m, rfl⟩ : ∃ j, m = j + 1 := ⟨m - 1, by omega⟩
        have hp : p = n := by omega
        subst hp
        rw [wX_doubts_18]
        exact br_t (nI_le (Nat.le_refl _) (by omega)) H
      | succ d ih =>
        intro p m hd hm
        obtain ⟨m, rfl⟩ : ∃ j, m = j + 1 := ⟨m - 1, by omega⟩
        have c : (nI p).toNatClampNeg = p := nI_clamp (by omega)
        have v : vp_in (nI p) 40 := vp_in_nI (by omega) (by decide)
        have v1 : vp_in (nI p) 41 := vp_in_nI (by omega) (by decide)
        have k9 := hk9 p
        have IH := ih (p + 1) m (by omega) (by omega)
        have hc : dc_n (dq_d K V n) (p + 1) = dc_n (dq_d K V n) p + (if dq_d K V n p = true then 1 else 0) := rfl
        have I0 : dq_d K V n p = false → wX_doubts_18 post (nI n) 1 1 xo xn xv ki va ea el op sk be co me ma wa m (nI (dc_n (dq_d K V n) p)) (nI (p + 1)) := by
          intro z
          rw [hc, z] at IH
          exact IH
        have I1 : dq_d K V n p = true → wX_doubts_18 post (nI n) 1 1 xo xn xv ki va ea el op sk be co me ma wa m (nI (dc_n (dq_d K V n) p + 1)) (nI (p + 1)) := by
          intro z
          rw [hc, z] at IH
          exact IH
        have b := hR.2.1 p (by omega)
        rw [wX_doubts_18]
        refine br_f (nI_ge (by omega) (by omega)) ⟨v, ?_⟩
        rw [c, hK p, b.1, b.2]
        refine pk_eq (K p) 1 (fun k1 => ⟨v1, ?_⟩) (fun n1 => nm_r (nI_1 p) (I0 (by unfold dq_d; rw [decide_eq_false n1]; rfl)))
        have hv := hV p (by omega)
        rw [hv.1]
        have ed : dq_d K V n p = dB_p (dg_R K V n (V p) 0 p) := by unfold dq_d; rw [decide_eq_true k1]; rfl
        by_cases z : dg_R K V n 6 0 p
        · rw [dB_t.mpr z]
          refine br_f (by decide) ⟨v1, v, ?_⟩
          by_cases y : dg_R K V n (V p) 0 p
          · refine br_t ((dm_tst _ (by omega)).mpr ?_) (nm_r (nI_1 _) (nm_r (nI_1 p) (I1 ?_)))
            · dsimp only; rw [dB_t.mpr y]; rfl
            · rw [ed]; exact dB_t.mpr y
          · refine br_f (fun w => ?_) (nm_r (nI_1 p) (I0 ?_))
            · have := (dm_tst _ (by omega)).mp w
              dsimp only at this
              rw [dB_f.mpr y] at this
              exact absurd this (by decide)
            · rw [ed]; exact dB_f.mpr y
        · rw [dB_f.mpr z]
          refine br_t (by decide) (nm_r (nI_1 p) (I0 ?_))
          rw [ed]
          exact dB_f.mpr (fun y => z (dg_R6 (fun q hq => (hV q (by omega)).2) y))
    exact L n 0 (n + 1) (by omega) (by omega)
  · rw [dq_af hno] at H
    exact br_t rfl H
theorem dq_xii {post : Int32 → Prop} {p : Nat} (hn : n ≤ 40) (hK : ∀ j, ki j = nI (K j)) (hk9 : ∀ j, K j ≤ 9) (hV : ∀ q, K q ≤ 1 → va q = nI (V q) ∧ V q ≤ 5) (hso : ds_so K n) (hR : dx_R K V n ea el op be co wa) (hp : p < n)
    (h : post (dx_b (dq_i K V n p))) : wpX_isIdle post (nI n, xr, xg, xo, xn, xv, ki, va, ea, el, op, sk, be, co, me, ma, wa) (nI p) := by
  have c : (nI p).toNatClampNeg = p := nI_clamp (by omega)
  have v : vp_in (nI p) 40 := vp_in_nI (by omega) (by decide)
  have v1 : vp_in (nI p) 41 := vp_in_nI (by omega) (by decide)
  have k9 := hk9 p
  unfold wpX_isIdle
  dsimp only
  rw [c, hK p, (hR.2.1 p (by omega)).2]
  refine ⟨v, pk_eq (K p) 0 (fun k0 => ⟨v1, ?_⟩) (fun n0 => ?_)⟩
  · have hv := hV p (by omega)
    have ei : dq_i K V n p = (dB_p (dg_R K V n 6 0 p) && !dB_p (dg_W K V n (V p) (p + 1))) := by unfold dq_i; rw [decide_eq_true k0]; rfl
    rw [ei] at h
    by_cases z : dg_R K V n 6 0 p
    · rw [dB_t.mpr z] at h ⊢
      refine br_f (by decide) ?_
      refine dx_wb (w := fun q v => dB_p (dg_W K V n v q)) hK hk9 hn hp hso hR.1 hR.2.2 ⟨v, ?_⟩
      rw [hv.1]
      have e1 : dg_n K n p = some (p + 1) := (if_neg (by omega)).trans ((if_neg (by omega)).trans ((if_neg (by omega)).trans ((if_neg (by omega)).trans (if_neg (by omega)))))
      have e2 : dg_x K n p = none := (if_neg (by omega)).trans (if_neg (by omega))
      have e3 : dw_s n (dg_n K n) (dg_x K n) (fun q v => dB_p (dg_W K V n v q)) p (V p) = dB_p (dg_W K V n (V p) (p + 1)) := by
        unfold dw_s
        rw [e1, e2]
        exact Bool.or_false _
      by_cases y : dg_W K V n (V p) (p + 1)
      · rw [dB_t.mpr y] at h
        refine br_f (fun u => ?_) h
        have := (dm_tst _ (by omega)).mp u
        rw [e3, dB_t.mpr y] at this
        exact absurd this (by decide)
      · rw [dB_f.mpr y] at h
        exact br_t ((dm_tst _ (by omega)).mpr (by rw [e3]; exact dB_f.mpr y)) h
    · rw [dB_f.mpr z] at h ⊢
      exact br_t (by decide) h
  · have ei : dq_i K V n p = false := by unfold dq_i; rw [decide_eq_false n0]; rfl
    rw [ei] at h
    exact h
theorem dq_xid {post : Int32 → SX → Prop} (hI : dz_I K V n xr xg ki va ea el op be co wa vs)
    (h : ∀ (xr xg xo xn xv : Int32) (ea el op sk be co me ma wa : Nat → Int32), dz_I K V n xr xg ki va ea el op be co wa vs → post (dq_a (ds_so K n) (dq_a (dq_v n x) (dx_b (dq_i K V n x.toNatClampNeg)) 0) 0) (nI n, xr, xg, xo, xn, xv, ki, va, ea, el, op, sk, be, co, me, ma, wa)) : wpX_idle post (nI n, xr, xg, xo, xn, xv, ki, va, ea, el, op, sk, be, co, me, ma, wa) x := by
  obtain ⟨hn, hK, hk9, hV, hV', hr⟩ := hI
  unfold wpX_idle
  dsimp only
  refine dx_pr hK hk9 hV hn hr (fun xg xo xn xv ea el op sk be co me ma wa hD => ?_)
  have H := h 1 xg xo xn xv ea el op sk be co me ma wa ⟨hn, hK, hk9, hV, hV', Or.inr ⟨rfl, hD⟩⟩
  dsimp only
  rcases hD with ⟨hso, rfl, hR⟩ | ⟨hno, rfl⟩
  · rw [dq_at hso] at H
    refine br_f (by decide) (dq_nt hn (fun hv => br_f (by decide) ?_) (fun p hp e => br_t rfl ?_))
    · rw [dq_af hv] at H; exact H
    · rw [dq_at ⟨p, hp, e⟩] at H
      subst e
      have c : (nI p).toNatClampNeg = p := nI_clamp (by omega)
      rw [c] at H
      exact dq_xii hn hK hk9 hV hso hR hp ⟨dx_bn _, H⟩
  · rw [dq_af hno] at H
    exact br_t rfl H
theorem dq_xis {post : Int32 → SX → Prop} (hI : dz_I K V n xr xg ki va ea el op be co wa vs)
    (h : ∀ (xr xg xo xn xv : Int32) (ea el op sk be co me ma wa : Nat → Int32), dz_I K V n xr xg ki va ea el op be co wa vs → post (dq_a (ds_so K n) (nI (dc_n (dq_i K V n) n)) (-4)) (nI n, xr, xg, xo, xn, xv, ki, va, ea, el, op, sk, be, co, me, ma, wa)) : wpX_idles post (nI n, xr, xg, xo, xn, xv, ki, va, ea, el, op, sk, be, co, me, ma, wa) := by
  obtain ⟨hn, hK, hk9, hV, hV', hr⟩ := hI
  unfold wpX_idles
  dsimp only
  refine dx_pr hK hk9 hV hn hr (fun xg xo xn xv ea el op sk be co me ma wa hD => ?_)
  have H := h 1 xg xo xn xv ea el op sk be co me ma wa ⟨hn, hK, hk9, hV, hV', Or.inr ⟨rfl, hD⟩⟩
  dsimp only
  rcases hD with ⟨hso, rfl, hR⟩ | ⟨hno, rfl⟩
  · rw [dq_at hso] at H
    refine br_f (by decide) ⟨n + 1, ?_⟩
    have L : ∀ (d p m : Nat), p + d = n → d < m → wX_idles_18 post (nI n) 1 1 xo xn xv ki va ea el op sk be co me ma wa m (nI (dc_n (dq_i K V n) p)) (nI p) := by
      intro d
      induction d with
      | zero =>
        intro p m hd hm
        obtain ⟨m, rfl⟩ : ∃ j, m = j + 1 := ⟨m - 1, by omega⟩
        have hp : p = n := by omega
        subst hp
        rw [wX_idles_18]
        exact br_t (nI_le (Nat.le_refl _) (by omega)) H
      | succ d ih =>
        intro p m hd hm
        obtain ⟨m, rfl⟩ : ∃ j, m = j + 1 := ⟨m - 1, by omega⟩
        have IH := ih (p + 1) m (by omega) (by omega)
        have hc : dc_n (dq_i K V n) (p + 1) = dc_n (dq_i K V n) p + (if dq_i K V n p = true then 1 else 0) := rfl
        rw [hc] at IH
        rw [wX_idles_18]
        refine br_f (nI_ge (by omega) (by omega)) ?_
        refine dq_xii hn hK hk9 hV hso hR (by omega) ?_
        revert IH
        cases dq_i K V n p with
        | false => exact fun IH => br_t (by decide) (nm_r (nI_1 p) IH)
        | true => exact fun IH => br_f (by decide) (nm_r (nI_1 _) (nm_r (nI_1 p) IH))
    exact L n 0 (n + 1) (by omega) (by omega)
  · rw [dq_af hno] at H
    exact br_t rfl H
end
end
section
/-! the reference's answers -/
section
variable {ki : Nat → Int32}
variable {ys : Int32} {vs en es cl lo yo : Nat → Int32}
variable {K V : Nat → Nat} {n : Nat} {x : Int32}
/-- the reference's part of the relation -/
def dz_Y (K V : Nat → Nat) (n : Nat) (ki vs : Nat → Int32) : Prop := n ≤ 40 ∧ (∀ j, ki j = nI (K j)) ∧ (∀ j, K j ≤ 9) ∧ (∀ q, K q ≤ 1 → vs q = nI (V q) ∧ V q ≤ 5)
theorem dq_bd {post : Int32 → Prop} (hn : n ≤ 40) (h1 : ¬ dq_v n x → post 1) (h0 : ∀ p, p < n → x = nI p → post 0) : wpY_bad post (nI n, ki, vs, en, es, cl, lo, yo) x := by
  unfold wpY_bad
  dsimp only
  rcases dq_ix hn x with ⟨hv, z | z⟩ | ⟨p, hp, rfl⟩
  · exact br_t z (h1 hv)
  · exact br_f z.1 (br_f z.2 (h1 hv))
  · exact br_f (nI_pos (by omega)) (br_t (nI_lt hp (by omega)) (h0 p hp rfl))
/-- a search for a variable below 6 -/
theorem dq_sv {post : Int64 → Prop} {a i : Nat} (hY : dz_Y K V n ki vs) (hso : ds_so K n) (hF : dy_F K n en es cl lo) (ha : a ≤ n) (hi : i < 6)
    (h : ∀ s : Int64, (∀ q, db_l s q = dB_p (dg_R K V n i a q)) → post s) : wpY_search post (nI n, ki, vs, en, es, cl, lo, yo) (dv_b (some a)) (nI i) := by
  obtain ⟨hn, hK, hk9, hV⟩ := hY
  refine dy_se (st := ds_t K V i) hK hk9 hn hso hF (fun p hp k0 => ?_) (fun p hp n0 => ?_) ha h
  · have hv := hV p (by omega)
    rw [hv.1, nI_eq (by omega) (by omega)]
    unfold ds_t
    rw [decide_eq_true_iff]
    exact ⟨fun z => ⟨k0, z⟩, fun z => z.2⟩
  · unfold ds_t
    rw [decide_eq_false_iff_not]
    exact fun z => n0 z.1
/-- a search that stops nowhere -/
theorem dq_s6 {post : Int64 → Prop} {a : Nat} (hY : dz_Y K V n ki vs) (hso : ds_so K n) (hF : dy_F K n en es cl lo) (ha : a ≤ n)
    (h : ∀ s : Int64, (∀ q, db_l s q = dB_p (dg_R K V n 6 a q)) → post s) : wpY_search post (nI n, ki, vs, en, es, cl, lo, yo) (dv_b (some a)) (-1) := by
  obtain ⟨hn, hK, hk9, hV⟩ := hY
  refine dy_se (st := ds_t K V 6) hK hk9 hn hso hF (fun p hp k0 => ?_) (fun p hp n0 => ?_) ha h
  · have hv := hV p (by omega)
    rw [hv.1]
    constructor
    · intro z
      have := nI_pos (n := V p) (by omega)
      rw [z] at this
      exact absurd this (by decide)
    · intro z
      unfold ds_t at z
      have := (of_decide_eq_true z).2
      omega
  · unfold ds_t
    rw [decide_eq_false_iff_not]
    exact fun z => n0 z.1
theorem dv_b1 : dv_b (some 0) = 1 := by decide
theorem dq_yso {post : Int32 → SY → Prop} (hY : dz_Y K V n ki vs) (h : ∀ (en es cl lo yo : Nat → Int32), post (dq_a (ds_so K n) 1 0) (nI n, ki, vs, en, es, cl, lo, yo)) : wpY_sound post (nI n, ki, vs, en, es, cl, lo, yo) := by
  obtain ⟨hn, hK, hk9, hV⟩ := hY
  refine dy_so hK hk9 hn (fun hso en es cl lo yo _ => ?_) (fun hno en es cl lo yo => ?_)
  · have H := h en es cl lo yo
    rw [dq_at hso] at H
    exact H
  · have H := h en es cl lo yo
    rw [dq_af hno] at H
    exact H
/-- reached: with what the structure leaves where the answer is yes -/
theorem dq_yre {post : Int32 → SY → Prop} (hY : dz_Y K V n ki vs)
    (h : ∀ (en es cl lo yo : Nat → Int32), (ds_so K n → dy_F K n en es cl lo) → post (dq_a (ds_so K n) (dq_a (dq_v n x) (dx_b (dB_p (dg_R K V n 6 0 x.toNatClampNeg))) 0) 0) (nI n, ki, vs, en, es, cl, lo, yo)) : wpY_reached post (nI n, ki, vs, en, es, cl, lo, yo) x := by
  have hY' := hY
  obtain ⟨hn, hK, hk9, hV⟩ := hY'
  unfold wpY_reached
  dsimp only
  refine dy_so hK hk9 hn (fun hso en es cl lo yo hF => ?_) (fun hno en es cl lo yo => ?_)
  · have H := h en es cl lo yo (fun _ => hF)
    rw [dq_at hso] at H
    dsimp only
    refine br_f (by decide) (dq_bd hn (fun hv => br_f (by decide) ?_) (fun p hp e => br_t rfl ?_))
    · rw [dq_af hv] at H; exact H
    · rw [dq_at ⟨p, hp, e⟩] at H
      subst e
      have c : (nI p).toNatClampNeg = p := nI_clamp (by omega)
      rw [c] at H
      rw [← dv_b1]
      refine dq_s6 hY hso hF (Nat.zero_le n) (fun s hs => ?_)
      refine dy_at (by omega) ?_
      rw [hs p]
      exact ⟨dx_bn _, H⟩
  · have H := h en es cl lo yo (fun z => absurd z hno)
    rw [dq_af hno] at H
    exact br_t rfl H
theorem dq_ysu {post : Int32 → SY → Prop} (hY : dz_Y K V n ki vs)
    (h : ∀ (en es cl lo yo : Nat → Int32), post (dq_a (ds_so K n) (dq_a (dq_v n x) (dx_k (fun i => dB_p (dg_R K V n i 0 x.toNatClampNeg))) (-5)) (-4)) (nI n, ki, vs, en, es, cl, lo, yo)) : wpY_surely post (nI n, ki, vs, en, es, cl, lo, yo) x := by
  have hY' := hY
  obtain ⟨hn, hK, hk9, hV⟩ := hY'
  unfold wpY_surely
  dsimp only
  refine dy_so hK hk9 hn (fun hso en es cl lo yo hF => ?_) (fun hno en es cl lo yo => ?_)
  · have H := h en es cl lo yo
    rw [dq_at hso] at H
    dsimp only
    refine br_f (by decide) (dq_bd hn (fun hv => br_f (by decide) ?_) (fun p hp e => br_t rfl ?_))
    · rw [dq_af hv] at H; exact H
    · rw [dq_at ⟨p, hp, e⟩] at H
      subst e
      have c : (nI p).toNatClampNeg = p := nI_clamp (by omega)
      rw [c] at H
      have L : ∀ (d v m : Nat), v + d = 6 → d < m → wY_surely_25 post (nI p) (nI n) ki vs en es cl lo yo m (dm_k (fun i => !(dB_p (dg_R K V n i 0 p))) v) (nI v) := by
        intro d
        induction d with
        | zero =>
          intro v m hd hm
          obtain ⟨m, rfl⟩ : ∃ j, m = j + 1 := ⟨m - 1, by omega⟩
          have hv : v = 6 := by omega
          subst hv
          rw [wY_surely_25]
          exact br_t (by decide) H
        | succ d ih =>
          intro v m hd hm
          obtain ⟨m, rfl⟩ : ∃ j, m = j + 1 := ⟨m - 1, by omega⟩
          have IH := ih (v + 1) m (by omega) (by omega)
          have hc : dm_k (fun i => !(dB_p (dg_R K V n i 0 p))) (v + 1) = if (!(dB_p (dg_R K V n v 0 p))) = true then dm_k (fun i => !(dB_p (dg_R K V n i 0 p))) v ||| ((1 : Int32) <<< (nI v &&& 31)) else dm_k (fun i => !(dB_p (dg_R K V n i 0 p))) v := rfl
          rw [hc] at IH
          rw [wY_surely_25]
          refine br_f (nI_ge (b := 6) (by omega) (by decide)) ?_
          rw [← dv_b1]
          refine dq_sv hY hso hF (Nat.zero_le n) (by omega) (fun s hs => ?_)
          refine dy_at (by omega) ?_
          rw [hs p]
          revert IH
          cases dB_p (dg_R K V n v 0 p) with
          | false => exact fun IH => br_t (by decide) (nm_e (nm_r (nI_1 v) IH))
          | true => exact fun IH => br_f (by decide) (nm_r (nI_1 v) IH)
      exact ⟨7, L 6 0 7 (by omega) (by omega)⟩
  · have H := h en es cl lo yo
    rw [dq_af hno] at H
    exact br_t rfl H
theorem dq_yco {post : Int32 → SY → Prop} (hY : dz_Y K V n ki vs)
    (h : ∀ (en es cl lo yo : Nat → Int32), post (dq_a (ds_so K n) (dx_b (dB_p (dg_R K V n 6 0 n))) 0) (nI n, ki, vs, en, es, cl, lo, yo)) : wpY_completes post (nI n, ki, vs, en, es, cl, lo, yo) := by
  have hY' := hY
  obtain ⟨hn, hK, hk9, hV⟩ := hY'
  unfold wpY_completes
  dsimp only
  refine dy_so hK hk9 hn (fun hso en es cl lo yo hF => ?_) (fun hno en es cl lo yo => ?_)
  · have H := h en es cl lo yo
    rw [dq_at hso] at H
    dsimp only
    refine br_f (by decide) ?_
    rw [← dv_b1]
    refine dq_s6 hY hso hF (Nat.zero_le n) (fun s hs => ?_)
    refine dy_at (by omega) ?_
    rw [hs n]
    exact ⟨dx_bn _, H⟩
  · have H := h en es cl lo yo
    rw [dq_af hno] at H
    exact br_t rfl H
theorem dq_ydo {post : Int32 → SY → Prop} (hY : dz_Y K V n ki vs)
    (h : ∀ (en es cl lo yo : Nat → Int32), post (dq_a (ds_so K n) (nI (dc_n (dq_d K V n) n)) (-4)) (nI n, ki, vs, en, es, cl, lo, yo)) : wpY_doubts post (nI n, ki, vs, en, es, cl, lo, yo) := by
  have hY' := hY
  obtain ⟨hn, hK, hk9, hV⟩ := hY'
  unfold wpY_doubts
  dsimp only
  refine dy_so hK hk9 hn (fun hso en es cl lo yo hF => ?_) (fun hno en es cl lo yo => ?_)
  · have H := h en es cl lo yo
    rw [dq_at hso] at H
    dsimp only
    refine br_f (by decide) ⟨n + 1, ?_⟩
    have L : ∀ (d p m : Nat), p + d = n → d < m → wY_doubts_14 post (nI n) ki vs en es cl lo yo m (nI (dc_n (dq_d K V n) p)) (nI p) := by
      intro d
      induction d with
      | zero =>
        intro p m hd hm
        obtain ⟨m, rfl⟩ : ∃ j, m = j + 1 := ⟨m - 1, by omega⟩
        have hp : p = n := by omega
        subst hp
        rw [wY_doubts_14]
        exact br_t (nI_le (Nat.le_refl _) (by omega)) H
      | succ d ih =>
        intro p m hd hm
        obtain ⟨m, rfl⟩ : ∃ j, m = j + 1 := ⟨m - 1, by omega⟩
        have c : (nI p).toNatClampNeg = p := nI_clamp (by omega)
        have v : vp_in (nI p) 40 := vp_in_nI (by omega) (by decide)
        have k9 := hk9 p
        have IH := ih (p + 1) m (by omega) (by omega)
        have hc : dc_n (dq_d K V n) (p + 1) = dc_n (dq_d K V n) p + (if dq_d K V n p = true then 1 else 0) := rfl
        rw [hc] at IH
        rw [wY_doubts_14]
        refine br_f (nI_ge (by omega) (by omega)) ⟨v, ?_⟩
        rw [c, hK p]
        refine pk_eq (K p) 1 (fun k1 => ⟨v, ?_⟩) (fun n1 => nm_r (nI_1 p) ?_)
        · have hv := hV p (by omega)
          have ed : dq_d K V n p = dB_p (dg_R K V n (V p) 0 p) := by unfold dq_d; rw [decide_eq_true k1]; rfl
          rw [hv.1, ← dv_b1]
          refine dq_sv hY hso hF (Nat.zero_le n) (by omega) (fun s hs => ?_)
          refine dy_at (by omega) ?_
          rw [hs p]
          rw [ed] at IH
          revert IH
          cases dB_p (dg_R K V n (V p) 0 p) with
          | false => exact fun IH => br_t (by decide) (nm_r (nI_1 p) IH)
          | true => exact fun IH => br_f (by decide) (nm_r (nI_1 _) (nm_r (nI_1 p) IH))
        · have ed : dq_d K V n p = false := by unfold dq_d; rw [decide_eq_false n1]; rfl
          rw [ed] at IH
          exact IH
    exact L n 0 (n + 1) (by omega) (by omega)
  · have H := h en es cl lo yo
    rw [dq_af hno] at H
    exact br_t rfl H
/-- a use of v among what a search from a has found -/
theorem dq_uW {s : Int64} {a v : Nat} (hs : ∀ q, db_l s q = dB_p (dg_R K V n v a q)) : dB_p (∃ q, q < n ∧ db_l s q = true ∧ K q = 1 ∧ V q = v) = dB_p (dg_W K V n v a) := by
  apply dB_e
  rw [dB_t]
  constructor
  · rintro ⟨q, hq, h1, h2, h3⟩
    rw [hs q] at h1
    exact ⟨q, hq, dB_t.mp h1, h2, h3⟩
  · rintro ⟨q, hq, h1, h2, h3⟩
    refine ⟨q, hq, ?_, h2, h3⟩
    rw [hs q]
    exact dB_t.mpr h1
theorem dq_ywa {post : Int32 → SY → Prop} (hY : dz_Y K V n ki vs)
    (h : ∀ (en es cl lo yo : Nat → Int32), post (dq_a (ds_so K n) (dq_a (dq_v n x) (dm_k (fun v => dB_p (dg_W K V n v x.toNatClampNeg)) 6) (-5)) (-4)) (nI n, ki, vs, en, es, cl, lo, yo)) : wpY_wanted post (nI n, ki, vs, en, es, cl, lo, yo) x := by
  have hY' := hY
  obtain ⟨hn, hK, hk9, hV⟩ := hY'
  unfold wpY_wanted
  dsimp only
  refine dy_so hK hk9 hn (fun hso en es cl lo yo hF => ?_) (fun hno en es cl lo yo => ?_)
  · have H := h en es cl lo yo
    rw [dq_at hso] at H
    dsimp only
    refine br_f (by decide) (dq_bd hn (fun hv => br_f (by decide) ?_) (fun p hp e => br_t rfl ?_))
    · rw [dq_af hv] at H; exact H
    · rw [dq_at ⟨p, hp, e⟩] at H
      subst e
      have c : (nI p).toNatClampNeg = p := nI_clamp (by omega)
      rw [c] at H
      have L : ∀ (d v m : Nat), v + d = 6 → d < m → wY_wanted_25 post (nI p) (nI n) ki vs en es cl lo yo m (dm_k (fun v => dB_p (dg_W K V n v p)) v) (nI v) := by
        intro d
        induction d with
        | zero =>
          intro v m hd hm
          obtain ⟨m, rfl⟩ : ∃ j, m = j + 1 := ⟨m - 1, by omega⟩
          have hv : v = 6 := by omega
          subst hv
          rw [wY_wanted_25]
          exact br_t (by decide) H
        | succ d ih =>
          intro v m hd hm
          obtain ⟨m, rfl⟩ : ∃ j, m = j + 1 := ⟨m - 1, by omega⟩
          have IH := ih (v + 1) m (by omega) (by omega)
          have hc : dm_k (fun v => dB_p (dg_W K V n v p)) (v + 1) = if dB_p (dg_W K V n v p) = true then dm_k (fun v => dB_p (dg_W K V n v p)) v ||| ((1 : Int32) <<< (nI v &&& 31)) else dm_k (fun v => dB_p (dg_W K V n v p)) v := rfl
          rw [hc] at IH
          rw [wY_wanted_25]
          refine br_f (nI_ge (b := 6) (by omega) (by decide)) ?_
          refine dy_bi (o := some p) (fun q hq => by cases hq; omega) ?_
          refine dq_sv hY hso hF (by omega) (by omega) (fun s hs => ?_)
          refine dy_us hK hk9 hV hn (by omega) ?_
          rw [dq_uW hs]
          revert IH
          cases dB_p (dg_W K V n v p) with
          | false => exact fun IH => br_t (by decide) (nm_r (nI_1 v) IH)
          | true => exact fun IH => br_f (by decide) (nm_e (nm_r (nI_1 v) IH))
      exact ⟨7, L 6 0 7 (by omega) (by omega)⟩
  · have H := h en es cl lo yo
    rw [dq_af hno] at H
    exact br_t rfl H
theorem dq_yen {post : Int32 → SY → Prop} (hY : dz_Y K V n ki vs)
    (h : ∀ (en es cl lo yo : Nat → Int32), post (dq_a (ds_so K n) (dq_a (dq_v n x) (dq_a (dq_o (K x.toNatClampNeg)) (nI (ds_E K n x.toNatClampNeg)) (-5)) (-5)) (-4)) (nI n, ki, vs, en, es, cl, lo, yo)) : wpY_endOf post (nI n, ki, vs, en, es, cl, lo, yo) x := by
  have hY' := hY
  obtain ⟨hn, hK, hk9, hV⟩ := hY'
  unfold wpY_endOf
  dsimp only
  refine dy_so hK hk9 hn (fun hso en es cl lo yo hF => ?_) (fun hno en es cl lo yo => ?_)
  · have H := h en es cl lo yo
    rw [dq_at hso] at H
    dsimp only
    refine br_f (by decide) (dq_bd hn (fun hv => br_f (by decide) ?_) (fun p hp e => br_t rfl ?_))
    · rw [dq_af hv] at H; exact H
    · rw [dq_at ⟨p, hp, e⟩] at H
      subst e
      have c : (nI p).toNatClampNeg = p := nI_clamp (by omega)
      have v : vp_in (nI p) 40 := vp_in_nI (by omega) (by decide)
      have k9 := hk9 p
      rw [c] at H ⊢
      rw [hK p]
      have H1 : dq_o (K p) → post (en p) (nI n, ki, vs, en, es, cl, lo, yo) := by
        intro ho
        rw [dq_at ho] at H
        rw [hF.2.2.2.1 p hp ho]
        exact H
      refine ⟨v, pk_eq (K p) 2 (fun k2 => ⟨v, H1 (by omega)⟩) fun n2 => ⟨v, pk_eq (K p) 4 (fun k4 => ⟨v, H1 (by omega)⟩) fun n4 => ⟨v, pk_eq (K p) 5 (fun k5 => ⟨v, H1 (by omega)⟩) fun n5 => ?_⟩⟩⟩
      rw [dq_af (by omega)] at H
      exact H
  · have H := h en es cl lo yo
    rw [dq_af hno] at H
    exact br_t rfl H
theorem dq_yid {post : Int32 → SY → Prop} (hY : dz_Y K V n ki vs)
    (h : ∀ (en es cl lo yo : Nat → Int32), post (dq_a (ds_so K n) (dq_a (dq_v n x) (dx_b (dq_i K V n x.toNatClampNeg)) 0) 0) (nI n, ki, vs, en, es, cl, lo, yo)) : wpY_idle post (nI n, ki, vs, en, es, cl, lo, yo) x := by
  have hY' := hY
  obtain ⟨hn, hK, hk9, hV⟩ := hY'
  unfold wpY_idle
  dsimp only
  refine dq_yre hY (fun en es cl lo yo hF => ?_)
  have H := h en es cl lo yo
  dsimp only
  by_cases hso : ds_so K n
  · have hF := hF hso
    rw [dq_at hso] at H ⊢
    by_cases hv : dq_v n x
    · obtain ⟨p, hp, e⟩ := hv
      rw [dq_at ⟨p, hp, e⟩] at H ⊢
      subst e
      have c : (nI p).toNatClampNeg = p := nI_clamp (by omega)
      have v : vp_in (nI p) 40 := vp_in_nI (by omega) (by decide)
      have k9 := hk9 p
      rw [c] at H ⊢
      rw [hK p]
      by_cases z : dg_R K V n 6 0 p
      · rw [dB_t.mpr z]
        refine br_f (by decide) ⟨v, pk_eq (K p) 0 (fun k0 => ?_) (fun n0 => ?_)⟩
        · have hv := hV p (by omega)
          have ei : dq_i K V n p = (dB_p (dg_R K V n 6 0 p) && !dB_p (dg_W K V n (V p) (p + 1))) := by unfold dq_i; rw [decide_eq_true k0]; rfl
          rw [ei, dB_t.mpr z] at H
          rw [hv.1, nI_1]
          refine dy_bi (o := some (p + 1)) (fun q hq => by cases hq; omega) ⟨v, ?_⟩
          refine dq_sv hY hso hF (by omega) (by omega) (fun s hs => ⟨v, ?_⟩)
          refine dy_us hK hk9 hV hn hv.2 ?_
          rw [dq_uW hs]
          revert H
          cases dB_p (dg_W K V n (V p) (p + 1)) with
          | false => exact fun H => br_t (by decide) H
          | true => exact fun H => br_f (by decide) H
        · have ei : dq_i K V n p = false := by unfold dq_i; rw [decide_eq_false n0]; rfl
          rw [ei] at H
          exact H
      · rw [dB_f.mpr z]
        have ei : dq_i K V n p = false := by unfold dq_i; rw [dB_f.mpr z]; cases decide (K p = 0) <;> rfl
        rw [ei] at H
        exact br_t (by decide) H
    · rw [dq_af hv] at H ⊢
      exact br_t rfl H
  · rw [dq_af hso] at H ⊢
    exact br_t rfl H
theorem dq_yis {post : Int32 → SY → Prop} (hY : dz_Y K V n ki vs)
    (h : ∀ (en es cl lo yo : Nat → Int32), post (dq_a (ds_so K n) (nI (dc_n (dq_i K V n) n)) (-4)) (nI n, ki, vs, en, es, cl, lo, yo)) : wpY_idles post (nI n, ki, vs, en, es, cl, lo, yo) := by
  have hY' := hY
  obtain ⟨hn, hK, hk9, hV⟩ := hY'
  unfold wpY_idles
  dsimp only
  refine dy_so hK hk9 hn (fun hso en es cl lo yo hF => ?_) (fun hno en es cl lo yo => ?_)
  · dsimp only
    refine br_f (by decide) ⟨n + 1, ?_⟩
    have L : ∀ (d p m : Nat) (en es cl lo yo : Nat → Int32), p + d = n → d < m → wY_idles_14 post m (nI (dc_n (dq_i K V n) p)) (nI p) (nI n) ki vs en es cl lo yo := by
      intro d
      induction d with
      | zero =>
        intro p m en es cl lo yo hd hm
        obtain ⟨m, rfl⟩ : ∃ j, m = j + 1 := ⟨m - 1, by omega⟩
        have hp : p = n := by omega
        subst hp
        have H := h en es cl lo yo
        rw [dq_at hso] at H
        rw [wY_idles_14]
        exact br_t (nI_le (Nat.le_refl _) (by omega)) H
      | succ d ih =>
        intro p m en es cl lo yo hd hm
        obtain ⟨m, rfl⟩ : ∃ j, m = j + 1 := ⟨m - 1, by omega⟩
        have c : (nI p).toNatClampNeg = p := nI_clamp (by omega)
        have hc : dc_n (dq_i K V n) (p + 1) = dc_n (dq_i K V n) p + (if dq_i K V n p = true then 1 else 0) := rfl
        rw [wY_idles_14]
        refine br_f (nI_ge (by omega) (by omega)) ?_
        refine dq_yid hY (fun en es cl lo yo => ?_)
        have IH := ih (p + 1) m en es cl lo yo (by omega) (by omega)
        rw [hc] at IH
        rw [dq_at hso, dq_at ⟨p, by omega, rfl⟩, c]
        revert IH
        cases dq_i K V n p with
        | false => exact fun IH => br_t (by decide) (nm_r (nI_1 p) IH)
        | true => exact fun IH => br_f (by decide) (nm_r (nI_1 _) (nm_r (nI_1 p) IH))
    exact L n 0 (n + 1) en es cl lo yo (by omega) (by omega)
  · have H := h en es cl lo yo
    rw [dq_af hno] at H
    exact br_t rfl H
end
end
section
/-! the relation and what is owed -/
/-- the relation: the same tokens; where the component is ready, its arrays say what the graph of tokens says -/
def i_Rel (k : Nat) (u : SX) (v : SY) : Prop := match k, u, v with
  | _, (xl, xr, xg, _, _, _, ki, va, ea, el, op, _, be, co, _, _, wa), (ys, ky, vs, _, _, _, _, _) => ∃ (K V : Nat → Nat) (n : Nat), xl = nI n ∧ ys = nI n ∧ ky = ki ∧ dz_I K V n xr xg ki va ea el op be co wa vs
section
variable {xl xr xg xo xn xv : Int32} {ki va ea el op sk be co me ma wa : Nat → Int32}
variable {ys : Int32} {vs en es cl lo yo : Nat → Int32}
variable {K V : Nat → Nat} {n : Nat}
theorem zz_mk {k : Nat} (h : dz_I K V n xr xg ki va ea el op be co wa vs) : i_Rel k (nI n, xr, xg, xo, xn, xv, ki, va, ea, el, op, sk, be, co, me, ma, wa) (nI n, ki, vs, en, es, cl, lo, yo) := ⟨K, V, n, rfl, rfl, rfl, h⟩
theorem zz_el {k : Nat} {u : SX} {v : SY} {P : SX → SY → Prop}
    (h : ∀ (K V : Nat → Nat) (n : Nat) (xr xg xo xn xv : Int32) (ki va ea el op sk be co me ma wa vs en es cl lo yo : Nat → Int32), dz_I K V n xr xg ki va ea el op be co wa vs → P (nI n, xr, xg, xo, xn, xv, ki, va, ea, el, op, sk, be, co, me, ma, wa) (nI n, ki, vs, en, es, cl, lo, yo)) (I : i_Rel k u v) : P u v := by
  obtain ⟨xl, xr, xg, xo, xn, xv, ki, va, ea, el, op, sk, be, co, me, ma, wa⟩ := u
  obtain ⟨ys, ky, vs, en, es, cl, lo, yo⟩ := v
  obtain ⟨K, V, n, rfl, rfl, rfl, hI⟩ := I
  exact h K V n xr xg xo xn xv _ va ea el op sk be co me ma wa vs en es cl lo yo hI
theorem zz_Y (h : dz_I K V n xr xg ki va ea el op be co wa vs) : dz_Y K V n ki vs := ⟨h.1, h.2.1, h.2.2.1, h.2.2.2.2.1⟩
theorem zz_up {p a m w : Nat} {z0 y0 : Int32} (h : dz_I K V n xr xg ki va ea el op be co wa vs) (hm : m ≤ 40) (ha : a ≤ 9) (hw : a ≤ 1 → z0 = nI w ∧ y0 = nI w ∧ w ≤ 5) :
    dz_I (dn_u K p a) (dn_u V p w) m 0 xg (upd ki p (nI a)) (upd va p z0) ea el op be co wa (upd vs p y0) := by
  obtain ⟨hn, hK, hk9, hV, hV', hr⟩ := h
  refine ⟨hm, fun j => ?_, fun j => ?_, fun q => ?_, fun q => ?_, Or.inl rfl⟩
  · by_cases e : j = p
    · subst e; rw [pk_us, dn_s]
    · rw [pk_un e, dn_n e]; exact hK j
  · by_cases e : j = p
    · subst e; rw [dn_s]; exact ha
    · rw [dn_n e]; exact hk9 j
  · by_cases e : q = p
    · subst e; rw [pk_us, dn_s, dn_s]; exact fun z => ⟨(hw z).1, (hw z).2.2⟩
    · rw [pk_un e, dn_n e, dn_n e]; exact hV q
  · by_cases e : q = p
    · subst e; rw [pk_us, dn_s, dn_s]; exact fun z => ⟨(hw z).2.1, (hw z).2.2⟩
    · rw [pk_un e, dn_n e, dn_n e]; exact hV' q
theorem dz_tok (a b : Int32) : (a < 0 ∨ (¬ a < 0 ∧ ¬ a ≤ 9)) ∨ ∃ k, k ≤ 9 ∧ a = nI k ∧ ((2 ≤ k ∨ ∃ v, v ≤ 5 ∧ b = nI v) ∨ (k ≤ 1 ∧ (b < 0 ∨ (¬ b < 0 ∧ ¬ b ≤ 5)))) := by
  by_cases h0 : a < 0
  · exact Or.inl (Or.inl h0)
  · by_cases h9 : a ≤ 9
    · obtain ⟨k, hk, rfl⟩ := nI_of2 (n := 9) (by decide) h0 h9
      refine Or.inr ⟨k, hk, rfl, ?_⟩
      by_cases h2 : 2 ≤ k
      · exact Or.inl (Or.inl h2)
      · by_cases b0 : b < 0
        · exact Or.inr ⟨by omega, Or.inl b0⟩
        · by_cases b5 : b ≤ 5
          · obtain ⟨v, hv, rfl⟩ := nI_of2 (n := 5) (by decide) b0 b5
            exact Or.inl (Or.inr ⟨v, hv, rfl⟩)
          · exact Or.inr ⟨by omega, Or.inr ⟨b0, b5⟩⟩
    · exact Or.inl (Or.inr ⟨h0, h9⟩)
theorem dz_xb0 {post : Int32 → Prop} {k : Nat} {b : Int32} (hk : k ≤ 9) (hb : 2 ≤ k ∨ ∃ v, v ≤ 5 ∧ b = nI v) (h : post 0) : wpX_badVariable post (nI k) b := by
  have h9 : k ≤ 1 → wX_badVariable_9 post b := by
    intro hk1
    rcases hb with z | ⟨v, hv, rfl⟩
    · omega
    · exact br_f (nI_pos (by omega)) (br_t (nI_le (b := 5) hv (by decide)) h)
  exact pk_eq k 0 (fun z => h9 (by omega)) (fun _ => pk_eq k 1 (fun z => h9 (by omega)) (fun _ => h))
theorem dz_xb1 {post : Int32 → Prop} {k : Nat} {b : Int32} (hk : k ≤ 1) (hb : b < 0 ∨ (¬ b < 0 ∧ ¬ b ≤ 5)) (h : post 1) : wpX_badVariable post (nI k) b := by
  have h9 : wX_badVariable_9 post b := by
    rcases hb with z | z
    · exact br_t z h
    · exact br_f z.1 (br_f z.2 h)
  exact pk_eq k 0 (fun z => h9) (fun _ => pk_eq k 1 (fun z => h9) (fun _ => absurd hk (by omega)))
theorem dz_yr1 {post : Int32 → Prop} {a b : Int32} (ha : a < 0 ∨ (¬ a < 0 ∧ ¬ a ≤ 9)) (h : post (-1)) : wpY_refusal post (ys, ki, vs, en, es, cl, lo, yo) a b := by
  unfold wpY_refusal
  dsimp only
  rcases ha with z | z
  · exact br_t z h
  · exact br_f z.1 (br_f z.2 h)
theorem dz_yr0 {post : Int32 → Prop} {k : Nat} {b : Int32} (hk : k ≤ 9) (hb : 2 ≤ k ∨ ∃ v, v ≤ 5 ∧ b = nI v) (h : post 0) : wpY_refusal post (ys, ki, vs, en, es, cl, lo, yo) (nI k) b := by
  unfold wpY_refusal
  dsimp only
  refine br_f (nI_pos (by omega)) (br_t (nI_le (b := 9) hk (by decide)) (pk_le 2 k (fun _ => h) (fun z => ?_)))
  rcases hb with y | ⟨v, hv, rfl⟩
  · omega
  · exact br_f (nI_pos (by omega)) (br_t (nI_le (b := 5) hv (by decide)) h)
theorem dz_yr2 {post : Int32 → Prop} {k : Nat} {b : Int32} (hk : k ≤ 1) (hb : b < 0 ∨ (¬ b < 0 ∧ ¬ b ≤ 5)) (h : post (-2)) : wpY_refusal post (ys, ki, vs, en, es, cl, lo, yo) (nI k) b := by
  unfold wpY_refusal
  dsimp only
  refine br_f (nI_pos (by omega)) (br_t (nI_le (b := 9) (by omega) (by decide)) (pk_le 2 k (fun _ => by omega) (fun z => ?_)))
  rcases hb with y | y
  · exact br_t y h
  · exact br_f y.1 (br_f y.2 h)
theorem dz_w {a : Nat} {b : Int32} (hb : 2 ≤ a ∨ ∃ v, v ≤ 5 ∧ b = nI v) : ∃ w, a ≤ 1 → b = nI w ∧ w ≤ 5 := by
  rcases hb with z | ⟨v, hv, e⟩
  · exact ⟨0, fun y => by omega⟩
  · exact ⟨v, fun _ => ⟨e, hv⟩⟩
end
theorem i_up {k : Nat} {u : SX} {v : SY} (h : i_Rel k u v) : i_Rel (k + 4) u v := by
  refine zz_el (P := fun u v => i_Rel (k + 4) u v) ?_ h
  intro K V n xr xg xo xn xv ki va ea el op sk be co me ma wa vs en es cl lo yo hI
  exact zz_mk hI
theorem i_vc0 : wpX_init (fun u => wpY_init (fun v => i_Rel 0 u v)) :=
  ⟨fun _ => 0, fun _ => 0, 0, rfl, rfl, rfl, by decide, fun _ => rfl, fun _ => Nat.zero_le 9, fun _ _ => ⟨rfl, Nat.zero_le 5⟩, fun _ _ => ⟨rfl, Nat.zero_le 5⟩, Or.inl rfl⟩
theorem i_vc_add {k : Nat} {u : SX} {v : SY} (I : i_Rel k u v) (hk : k + 4 ≤ 2048) (v1 : Int32) (v2 : Int32) : wpX_add (fun r u' => wpY_add (fun r' v' => r' = r ∧ i_Rel (k + 4) u' v') v v1 v2) u v1 v2 := by
  refine zz_el (P := fun u v => wpX_add (fun r u' => wpY_add (fun r' v' => r' = r ∧ i_Rel (k + 4) u' v') v v1 v2) u v1 v2) ?_ I
  intro K V n xr xg xo xn xv ki va ea el op sk be co me ma wa vs en es cl lo yo hI
  have hn := hI.1
  unfold wpX_add wpY_add
  dsimp only
  rcases dz_tok v1 v2 with z | ⟨a, ha, rfl, hb | ⟨ha1, hb⟩⟩
  · rcases z with y | y
    · exact br_t y (dz_yr1 (Or.inl y) (br_f (by decide) ⟨rfl, zz_mk hI⟩))
    · exact br_f y.1 (br_f y.2 (dz_yr1 (Or.inr y) (br_f (by decide) ⟨rfl, zz_mk hI⟩)))
  · refine br_f (nI_pos (by omega)) (br_t (nI_le (b := 9) ha (by decide)) (dz_xb0 ha hb (br_t rfl ?_)))
    have c : (nI n).toNatClampNeg = n := nI_clamp (by omega)
    refine pk_lt n 40 (fun h40 => ?_) (fun h40 => ?_)
    · have v : vp_in (nI n) 40 := vp_in_nI h40 (by decide)
      obtain ⟨w, hw⟩ := dz_w hb
      have Y : ∀ z0 : Int32, (a ≤ 1 → z0 = v2) → wpY_refusal (fun r_1 => (0 ≤ r_1 → ((nI n = 40 → (-3 : Int32) = nI (n + 1) - 1 ∧ i_Rel (k + 4) (nI (n + 1), 0, xg, xo, xn, xv, upd ki n (nI a), upd va n z0, ea, el, op, sk, be, co, me, ma, wa) (nI n, ki, vs, en, es, cl, lo, yo)) ∧ (¬ nI n = 40 → vp_in (nI n) 40 ∧ ∀ a_kinds_13 : Nat → Int32, a_kinds_13 = upd ki (nI n).toNatClampNeg (nI a) → vp_in (nI n) 40 ∧ ∀ a_vs_15 : Nat → Int32, a_vs_15 = upd vs (nI n).toNatClampNeg v2 → ∀ f_size_16 : Int32, f_size_16 = nI n + 1 → f_size_16 - 1 = nI (n + 1) - 1 ∧ i_Rel (k + 4) (nI (n + 1), 0, xg, xo, xn, xv, upd ki n (nI a), upd va n z0, ea, el, op, sk, be, co, me, ma, wa) (f_size_16, a_kinds_13, a_vs_15, en, es, cl, lo, yo)))) ∧ (¬ 0 ≤ r_1 → r_1 = nI (n + 1) - 1 ∧ i_Rel (k + 4) (nI (n + 1), 0, xg, xo, xn, xv, upd ki n (nI a), upd va n z0, ea, el, op, sk, be, co, me, ma, wa) (nI n, ki, vs, en, es, cl, lo, yo))) (nI n, ki, vs, en, es, cl, lo, yo) (nI a) v2 := by
        intro z0 hz
        refine dz_yr0 ha hb (br_t (by decide) (pk_eq n 40 (fun z => by omega) (fun _ => ⟨v, nm_r (e' := upd ki n (nI a)) (by rw [c]) ⟨v, nm_r (e' := upd vs n v2) (by rw [c]) (nm_r (nI_1 n) ⟨rfl, ?_⟩)⟩⟩)))
        exact zz_mk (zz_up (w := w) hI (by omega) ha (fun y => ⟨(hz y).trans (hw y).1, (hw y).1, (hw y).2⟩))
      refine ⟨v, nm_r (e' := upd ki n (nI a)) (by rw [c]) (pk_lt 1 a (fun h1 => ?_) (fun h1 => ?_))⟩
      · unfold wX_add_63
        refine ⟨v, nm_r (e' := upd va n 0) (by rw [c]) (nm_r (nI_1 n) ?_)⟩
        exact Y 0 (fun y => by omega)
      · unfold wX_add_63
        refine ⟨v, nm_r (e' := upd va n v2) (by rw [c]) (nm_r (nI_1 n) ?_)⟩
        exact Y v2 (fun y => rfl)
    · have e : n = 40 := by omega
      subst e
      exact dz_yr0 ha hb (br_t (by decide) (br_t (by decide) ⟨rfl, zz_mk hI⟩))
  · refine br_f (nI_pos (by omega)) (br_t (nI_le (b := 9) ha (by decide)) (dz_xb1 ha1 hb (br_f (by decide) ?_)))
    exact dz_yr2 ha1 hb (br_f (by decide) ⟨rfl, zz_mk hI⟩)
theorem i_vc_change {k : Nat} {u : SX} {v : SY} (I : i_Rel k u v) (hk : k + 4 ≤ 2048) (v1 : Int32) (v2 : Int32) (v3 : Int32) : wpX_change (fun r u' => wpY_change (fun r' v' => r' = r ∧ i_Rel (k + 4) u' v') v v1 v2 v3) u v1 v2 v3 := by
  refine zz_el (P := fun u v => wpX_change (fun r u' => wpY_change (fun r' v' => r' = r ∧ i_Rel (k + 4) u' v') v v1 v2 v3) u v1 v2 v3) ?_ I
  intro K V n xr xg xo xn xv ki va ea el op sk be co me ma wa vs en es cl lo yo hI
  have hn := hI.1
  unfold wpX_change wpY_change
  dsimp only
  rcases dq_ix hn v1 with ⟨hv, hz⟩ | ⟨p, hp, rfl⟩
  · have no : ∀ p, p < n → v1 = nI p → False := fun p hp e => hv ⟨p, hp, e⟩
    refine dq_nt hn (fun _ => br_f (by decide) ?_) (fun p hp e => absurd e (fun e => no p hp e))
    exact dq_bd hn (fun _ => br_f (by decide) ⟨rfl, zz_mk hI⟩) (fun p hp e => absurd e (fun e => no p hp e))
  · have c : (nI p).toNatClampNeg = p := nI_clamp (by omega)
    have vi : vp_in (nI p) 40 := vp_in_nI (by omega) (by decide)
    have yes : dq_v n (nI p) := ⟨p, hp, rfl⟩
    refine dq_nt hn (fun z => absurd yes z) (fun q hq e => br_t rfl ?_)
    rcases dz_tok v2 v3 with z | ⟨a, ha, rfl, hb | ⟨ha1, hb⟩⟩
    · rcases z with y | y
      · refine br_t y (dq_bd hn (fun z => absurd yes z) (fun q hq e => br_t rfl ?_))
        exact dz_yr1 (Or.inl y) (br_f (by decide) ⟨rfl, zz_mk hI⟩)
      · refine br_f y.1 (br_f y.2 (dq_bd hn (fun z => absurd yes z) (fun q hq e => br_t rfl ?_)))
        exact dz_yr1 (Or.inr y) (br_f (by decide) ⟨rfl, zz_mk hI⟩)
    · refine br_f (nI_pos (by omega)) (br_t (nI_le (b := 9) ha (by decide)) (dz_xb0 ha hb (br_t rfl ?_)))
      obtain ⟨w, hw⟩ := dz_w hb
      refine ⟨vi, nm_r (e' := ki p) (by rw [c]) ⟨vi, nm_r (e' := upd ki p (nI a)) (by rw [c]) (pk_lt 1 a (fun h1 => ⟨vi, nm_r (e' := upd va p 0) (by rw [c]) ?_⟩) (fun h1 => ⟨vi, nm_r (e' := upd va p v3) (by rw [c]) ?_⟩))⟩⟩
      · refine dq_bd hn (fun z => absurd yes z) (fun q hq e => br_t rfl ?_)
        refine dz_yr0 ha hb (br_t (by decide) ⟨vi, nm_r (e' := ki p) (by rw [c]) ⟨vi, nm_r (e' := upd ki p (nI a)) (by rw [c]) ⟨vi, nm_r (e' := upd vs p v3) (by rw [c]) ⟨rfl, ?_⟩⟩⟩⟩)
        exact zz_mk (zz_up (w := w) hI hn ha (fun y => by omega))
      · refine dq_bd hn (fun z => absurd yes z) (fun q hq e => br_t rfl ?_)
        refine dz_yr0 ha hb (br_t (by decide) ⟨vi, nm_r (e' := ki p) (by rw [c]) ⟨vi, nm_r (e' := upd ki p (nI a)) (by rw [c]) ⟨vi, nm_r (e' := upd vs p v3) (by rw [c]) ⟨rfl, ?_⟩⟩⟩⟩)
        exact zz_mk (zz_up (w := w) hI hn ha (fun y => ⟨(hw y).1, (hw y).1, (hw y).2⟩))
    · refine br_f (nI_pos (by omega)) (br_t (nI_le (b := 9) ha (by decide)) (dz_xb1 ha1 hb (br_f (by decide) ?_)))
      refine dq_bd hn (fun z => absurd yes z) (fun q hq e => br_t rfl ?_)
      exact dz_yr2 ha1 hb (br_f (by decide) ⟨rfl, zz_mk hI⟩)
theorem i_vc_drop {k : Nat} {u : SX} {v : SY} (I : i_Rel k u v) (hk : k + 4 ≤ 2048) : wpX_drop (fun r u' => wpY_drop (fun r' v' => r' = r ∧ i_Rel (k + 4) u' v') v) u := by
  refine zz_el (P := fun u v => wpX_drop (fun r u' => wpY_drop (fun r' v' => r' = r ∧ i_Rel (k + 4) u' v') v) u) ?_ I
  intro K V n xr xg xo xn xv ki va ea el op sk be co me ma wa vs en es cl lo yo hI
  have hn := hI.1
  unfold wpX_drop wpY_drop
  dsimp only
  cases n with
  | zero => exact br_t (by decide) (br_t (by decide) ⟨rfl, zz_mk hI⟩)
  | succ m =>
    have h0 : ¬ nI (m + 1) = 0 := nI_ne0 (by omega) (by omega)
    refine br_f h0 (nm_r (nI_pred m) (br_f h0 (nm_r (nI_pred m) ⟨rfl, ?_⟩)))
    exact zz_mk (K := K) (V := V) ⟨by omega, hI.2.1, hI.2.2.1, hI.2.2.2.1, hI.2.2.2.2.1, Or.inl rfl⟩
theorem i_vc_sound {k : Nat} {u : SX} {v : SY} (I : i_Rel k u v) (hk : k + 4 ≤ 2048) : wpX_sound (fun r u' => wpY_sound (fun r' v' => r' = r ∧ i_Rel (k + 4) u' v') v) u := by
  refine zz_el (P := fun u v => wpX_sound (fun r u' => wpY_sound (fun r' v' => r' = r ∧ i_Rel (k + 4) u' v') v) u) ?_ I
  intro K V n xr xg xo xn xv ki va ea el op sk be co me ma wa vs en es cl lo yo hI
  exact dq_xso hI (fun _ _ _ _ _ _ _ _ _ _ _ _ _ _ hI' => dq_yso (zz_Y hI') (fun _ _ _ _ _ => ⟨rfl, zz_mk hI'⟩))
theorem i_vc_reached {k : Nat} {u : SX} {v : SY} (I : i_Rel k u v) (hk : k + 4 ≤ 2048) (v1 : Int32) : wpX_reached (fun r u' => wpY_reached (fun r' v' => r' = r ∧ i_Rel (k + 4) u' v') v v1) u v1 := by
  refine zz_el (P := fun u v => wpX_reached (fun r u' => wpY_reached (fun r' v' => r' = r ∧ i_Rel (k + 4) u' v') v v1) u v1) ?_ I
  intro K V n xr xg xo xn xv ki va ea el op sk be co me ma wa vs en es cl lo yo hI
  exact dq_xre hI (fun _ _ _ _ _ _ _ _ _ _ _ _ _ _ hI' => dq_yre (zz_Y hI') (fun _ _ _ _ _ _ => ⟨rfl, zz_mk hI'⟩))
theorem i_vc_surely {k : Nat} {u : SX} {v : SY} (I : i_Rel k u v) (hk : k + 4 ≤ 2048) (v1 : Int32) : wpX_surely (fun r u' => wpY_surely (fun r' v' => r' = r ∧ i_Rel (k + 4) u' v') v v1) u v1 := by
  refine zz_el (P := fun u v => wpX_surely (fun r u' => wpY_surely (fun r' v' => r' = r ∧ i_Rel (k + 4) u' v') v v1) u v1) ?_ I
  intro K V n xr xg xo xn xv ki va ea el op sk be co me ma wa vs en es cl lo yo hI
  exact dq_xsu hI (fun _ _ _ _ _ _ _ _ _ _ _ _ _ _ hI' => dq_ysu (zz_Y hI') (fun _ _ _ _ _ => ⟨rfl, zz_mk hI'⟩))
theorem i_vc_doubts {k : Nat} {u : SX} {v : SY} (I : i_Rel k u v) (hk : k + 4 ≤ 2048) : wpX_doubts (fun r u' => wpY_doubts (fun r' v' => r' = r ∧ i_Rel (k + 4) u' v') v) u := by
  refine zz_el (P := fun u v => wpX_doubts (fun r u' => wpY_doubts (fun r' v' => r' = r ∧ i_Rel (k + 4) u' v') v) u) ?_ I
  intro K V n xr xg xo xn xv ki va ea el op sk be co me ma wa vs en es cl lo yo hI
  exact dq_xdo hI (fun _ _ _ _ _ _ _ _ _ _ _ _ _ _ hI' => dq_ydo (zz_Y hI') (fun _ _ _ _ _ => ⟨rfl, zz_mk hI'⟩))
theorem i_vc_completes {k : Nat} {u : SX} {v : SY} (I : i_Rel k u v) (hk : k + 4 ≤ 2048) : wpX_completes (fun r u' => wpY_completes (fun r' v' => r' = r ∧ i_Rel (k + 4) u' v') v) u := by
  refine zz_el (P := fun u v => wpX_completes (fun r u' => wpY_completes (fun r' v' => r' = r ∧ i_Rel (k + 4) u' v') v) u) ?_ I
  intro K V n xr xg xo xn xv ki va ea el op sk be co me ma wa vs en es cl lo yo hI
  exact dq_xco hI (fun _ _ _ _ _ _ _ _ _ _ _ _ _ _ hI' => dq_yco (zz_Y hI') (fun _ _ _ _ _ => ⟨rfl, zz_mk hI'⟩))
theorem i_vc_idle {k : Nat} {u : SX} {v : SY} (I : i_Rel k u v) (hk : k + 4 ≤ 2048) (v1 : Int32) : wpX_idle (fun r u' => wpY_idle (fun r' v' => r' = r ∧ i_Rel (k + 4) u' v') v v1) u v1 := by
  refine zz_el (P := fun u v => wpX_idle (fun r u' => wpY_idle (fun r' v' => r' = r ∧ i_Rel (k + 4) u' v') v v1) u v1) ?_ I
  intro K V n xr xg xo xn xv ki va ea el op sk be co me ma wa vs en es cl lo yo hI
  exact dq_xid hI (fun _ _ _ _ _ _ _ _ _ _ _ _ _ _ hI' => dq_yid (zz_Y hI') (fun _ _ _ _ _ => ⟨rfl, zz_mk hI'⟩))
theorem i_vc_idles {k : Nat} {u : SX} {v : SY} (I : i_Rel k u v) (hk : k + 4 ≤ 2048) : wpX_idles (fun r u' => wpY_idles (fun r' v' => r' = r ∧ i_Rel (k + 4) u' v') v) u := by
  refine zz_el (P := fun u v => wpX_idles (fun r u' => wpY_idles (fun r' v' => r' = r ∧ i_Rel (k + 4) u' v') v) u) ?_ I
  intro K V n xr xg xo xn xv ki va ea el op sk be co me ma wa vs en es cl lo yo hI
  exact dq_xis hI (fun _ _ _ _ _ _ _ _ _ _ _ _ _ _ hI' => dq_yis (zz_Y hI') (fun _ _ _ _ _ => ⟨rfl, zz_mk hI'⟩))
theorem i_vc_wanted {k : Nat} {u : SX} {v : SY} (I : i_Rel k u v) (hk : k + 4 ≤ 2048) (v1 : Int32) : wpX_wanted (fun r u' => wpY_wanted (fun r' v' => r' = r ∧ i_Rel (k + 4) u' v') v v1) u v1 := by
  refine zz_el (P := fun u v => wpX_wanted (fun r u' => wpY_wanted (fun r' v' => r' = r ∧ i_Rel (k + 4) u' v') v v1) u v1) ?_ I
  intro K V n xr xg xo xn xv ki va ea el op sk be co me ma wa vs en es cl lo yo hI
  exact dq_xwa hI (fun _ _ _ _ _ _ _ _ _ _ _ _ _ _ hI' => dq_ywa (zz_Y hI') (fun _ _ _ _ _ => ⟨rfl, zz_mk hI'⟩))
theorem i_vc_endOf {k : Nat} {u : SX} {v : SY} (I : i_Rel k u v) (hk : k + 4 ≤ 2048) (v1 : Int32) : wpX_endOf (fun r u' => wpY_endOf (fun r' v' => r' = r ∧ i_Rel (k + 4) u' v') v v1) u v1 := by
  refine zz_el (P := fun u v => wpX_endOf (fun r u' => wpY_endOf (fun r' v' => r' = r ∧ i_Rel (k + 4) u' v') v v1) u v1) ?_ I
  intro K V n xr xg xo xn xv ki va ea el op sk be co me ma wa vs en es cl lo yo hI
  exact dq_xen hI (fun _ _ _ _ _ _ _ _ _ _ _ _ _ _ hI' => dq_yen (zz_Y hI') (fun _ _ _ _ _ => ⟨rfl, zz_mk hI'⟩))
end
