section
/-! rows pasted from the kit's rows (starting text) -/
theorem pk_us {f : Nat → Int32} {k : Nat} {x : Int32} : upd f k x k = x := if_pos rfl
theorem pk_un {f : Nat → Int32} {k j : Nat} {x : Int32} (h : j ≠ k) : upd f k x j = f j := if_neg h
theorem pk_sub {a b : Nat} (h : b ≤ a) : nI a - nI b = nI (a - b) := by
  obtain ⟨c, rfl⟩ : ∃ c, a = c + b := ⟨a - b, by omega⟩
  rw [← nI_add, Int32.add_sub_cancel, Nat.add_sub_cancel]
theorem pk_m1 (n : Nat) : nI (n + 1) + (-1) = nI n := by
  rw [← nI_1, Int32.add_assoc, show (1 : Int32) + (-1) = 0 from rfl, Int32.add_zero]
theorem pk_mul (a b : Nat) : nI a * nI b = nI (a * b) := (Int32.ofNat_mul a b).symm
theorem pk_div {a d : Nat} (ha : a < 2 ^ 31) (h0 : 0 < d) (hd : d < 2 ^ 31) : nI a / nI d = nI (a / d) := by
  apply Int32.toInt_inj.mp
  rw [lg_idiv_nonneg (by rw [nI_toInt ha]; omega) (by rw [nI_toInt hd]; omega), nI_toInt ha, nI_toInt hd, nI_toInt (Nat.lt_of_le_of_lt (Nat.div_le_self a d) ha)]
  first | rfl | exact (Int.natCast_ediv _ _).symm
theorem pk_rem {a d : Nat} (ha : a < 2 ^ 31) (h0 : 0 < d) (hd : d < 2 ^ 31) : nI a - nI a / nI d * nI d = nI (a % d) := by
  rw [pk_div ha h0 hd, pk_mul, pk_sub (Nat.div_mul_le_self a d)]
  exact congrArg nI (by have := Nat.div_add_mod' a d; omega)
theorem pk_ix (x : Int32) {n : Nat} (hn : n < 2 ^ 31) : x < 0 ∨ nI n ≤ x ∨ ∃ j : Nat, j < n ∧ x = nI j := by
  by_cases h : x < 0
  · exact Or.inl h
  · obtain ⟨j, hj, rfl⟩ := nI_of h
    by_cases h2 : j < n
    · exact Or.inr (Or.inr ⟨j, h2, rfl⟩)
    · exact Or.inr (Or.inl (nI_le (by omega) hj))
theorem pk_le {x y : Int32} {A B : Prop} (a b : Nat) (f : a ≤ b → A) (g : b < a → B) (hx : x = nI a := by rfl) (hy : y = nI b := by rfl) (ha : a < 2 ^ 31 := by omega) (hb : b < 2 ^ 31 := by omega) : (x ≤ y → A) ∧ (¬ x ≤ y → B) := by
  subst hx hy
  rw [nI_leI ha hb]
  exact ⟨f, fun z => g (by omega)⟩
theorem pk_lt {x y : Int32} {A B : Prop} (a b : Nat) (f : a < b → A) (g : b ≤ a → B) (hx : x = nI a := by rfl) (hy : y = nI b := by rfl) (ha : a < 2 ^ 31 := by omega) (hb : b < 2 ^ 31 := by omega) : (x < y → A) ∧ (¬ x < y → B) := by
  subst hx hy
  rw [nI_ltI ha hb]
  exact ⟨f, fun z => g (by omega)⟩
theorem pk_eq {x y : Int32} {A B : Prop} (a b : Nat) (f : a = b → A) (g : a ≠ b → B) (hx : x = nI a := by rfl) (hy : y = nI b := by rfl) (ha : a < 2 ^ 31 := by omega) (hb : b < 2 ^ 31 := by omega) : (x = y → A) ∧ (¬ x = y → B) := by
  subst hx hy
  rw [nI_eq ha hb]
  exact ⟨f, g⟩
theorem pk_in {x : Int32} (n N : Nat) (h : n < N) (hx : x = nI n := by rfl) (hN : N < 2 ^ 31 := by omega) : vp_in x N := by
  subst hx
  exact vp_in_nI h hN
theorem pk_cl {x : Int32} (n : Nat) (hx : x = nI n := by rfl) (h : n < 2 ^ 31 := by omega) : x.toNatClampNeg = n := by
  subst hx
  exact nI_clamp h
theorem pk_vb (z : Int32) : vp_nar .byte z.toInt8.toInt32 = z.toInt8.toInt32 := by rw [vp_nar_byte]; simp
theorem pk_least (P : Nat → Prop) (h : ∃ k, P k) : ∃ k, P k ∧ ∀ j, j < k → ¬ P j := by
  obtain ⟨k, hk⟩ := h
  induction k using Nat.strongRecOn with
  | ind k ih =>
    by_cases e : ∃ j, j < k ∧ P j
    · obtain ⟨j, hj, pj⟩ := e
      exact ih j hj pj
    · exact ⟨k, hk, fun j hj pj => e ⟨j, hj, pj⟩⟩
def bt (x : Int32) (i : Nat) : Bool := x.toBitVec.getLsbD i
theorem b_ext {x y : Int32} (h : ∀ i, i < 32 → bt x i = bt y i) : x = y := Int32.toBitVec_inj.mp (BitVec.eq_of_getLsbD_eq (fun i hi => h i hi))
theorem b_or (x y : Int32) (i : Nat) : bt (x ||| y) i = (bt x i || bt y i) := by unfold bt; rw [Int32.toBitVec_or, BitVec.getLsbD_or]
theorem b_and (x y : Int32) (i : Nat) : bt (x &&& y) i = (bt x i && bt y i) := by unfold bt; rw [Int32.toBitVec_and, BitVec.getLsbD_and]
theorem b_xor (x y : Int32) (i : Nat) : bt (x ^^^ y) i = (bt x i ^^ bt y i) := by unfold bt; rw [Int32.toBitVec_xor, BitVec.getLsbD_xor]
theorem b_big {x : Int32} {i : Nat} (h : 32 ≤ i) : bt x i = false := BitVec.getLsbD_of_ge _ _ h
theorem b_m1 : ∀ i, i < 32 → bt (-1) i = true := by decide +kernel
theorem b_0 (i : Nat) : bt 0 i = false := BitVec.getLsbD_zero
theorem s_l : ∀ n, n < 32 → ((nI n &&& 31).toBitVec.smod 32).toNat = n := by decide +kernel
theorem b_shl (n : Nat) (hn : n < 32) (x : Int32) {i : Nat} (hi : i < 32) : bt (x <<< (nI n &&& 31)) i = (decide (n ≤ i) && bt x (i - n)) := by
  unfold bt
  rw [Int32.toBitVec_shiftLeft]
  show (x.toBitVec <<< ((nI n &&& 31).toBitVec.smod 32).toNat).getLsbD i = _
  rw [s_l n hn, BitVec.getLsbD_shiftLeft]
  rcases Nat.lt_or_ge i n with h | h
  · simp [h, Nat.not_le.mpr h]
  · simp [hi, h, Nat.not_lt.mpr h]
theorem b_sshr (n : Nat) (hn : n < 32) (x : Int32) {i : Nat} (hi : i < 32) : bt (x >>> (nI n &&& 31)) i = if n + i < 32 then bt x (n + i) else bt x 31 := by
  unfold bt
  rw [Int32.toBitVec_shiftRight]
  show (x.toBitVec.sshiftRight ((nI n &&& 31).toBitVec.smod 32).toNat).getLsbD i = _
  rw [s_l n hn, BitVec.getLsbD_sshiftRight, BitVec.msb_eq_getLsbD_last]
  simp [hi]
end
section
/-! bits of an Int32 as a set -/
def bm_S (x : Int32) (P : Nat → Prop) : Prop := ∀ f, f < 32 → (bt x f = true ↔ P f)
theorem bm_imp {x : Int32} {P Q : Nat → Prop} (h : bm_S x P) (e : ∀ f, f < 32 → (P f ↔ Q f)) : bm_S x Q := fun f hf => (h f hf).trans (e f hf)
theorem bm_one : ∀ f, f < 32 → ∀ j, j < 32 → bt ((1 : Int32) <<< (nI f &&& 31)) j = decide (j = f) := by decide +kernel
theorem bm_b1 : ∀ j, j < 32 → bt (1 : Int32) j = decide (j = 0) := by decide +kernel
theorem bm_0 {P : Nat → Prop} (h : ∀ f, f < 32 → ¬ P f) : bm_S 0 P := fun f hf => by
  rw [b_0]
  exact ⟨fun z => Bool.noConfusion z, fun z => absurd z (h f hf)⟩
theorem bm_or {x y : Int32} {P Q : Nat → Prop} (h : bm_S x P) (g : bm_S y Q) : bm_S (x ||| y) (fun f => P f ∨ Q f) := fun f hf => by
  rw [b_or, Bool.or_eq_true, h f hf, g f hf]
theorem bm_and {x y : Int32} {P Q : Nat → Prop} (h : bm_S x P) (g : bm_S y Q) : bm_S (x &&& y) (fun f => P f ∧ Q f) := fun f hf => by
  rw [b_and, Bool.and_eq_true, h f hf, g f hf]
theorem bm_not {y : Int32} {Q : Nat → Prop} (g : bm_S y Q) : bm_S (y ^^^ (-1)) (fun f => ¬ Q f) := fun f hf => by
  show _ ↔ ¬ Q f
  rw [b_xor, b_m1 f hf, ← g f hf]
  cases bt y f <;> simp
theorem bm_sing {f : Nat} (hf : f < 32) : bm_S ((1 : Int32) <<< (nI f &&& 31)) (fun j => j = f) := fun j hj => by
  rw [bm_one f hf j hj, decide_eq_true_iff]
theorem bm_or1 {x : Int32} {P : Nat → Prop} {f : Nat} (h : bm_S x P) (hf : f < 32) : bm_S (x ||| ((1 : Int32) <<< (nI f &&& 31))) (fun j => P j ∨ j = f) := bm_or h (bm_sing hf)
theorem bm_clr {x : Int32} {P : Nat → Prop} {f : Nat} (h : bm_S x P) (hf : f < 32) : bm_S (x &&& (((1 : Int32) <<< (nI f &&& 31)) ^^^ (-1))) (fun j => P j ∧ ¬ j = f) := bm_and h (bm_not (bm_sing hf))
theorem bm_eq {x y : Int32} {P Q : Nat → Prop} (h : bm_S x P) (g : bm_S y Q) : x = y ↔ ∀ f, f < 32 → (P f ↔ Q f) := by
  constructor
  · intro e f hf
    subst e
    exact (h f hf).symm.trans (g f hf)
  · intro e
    refine b_ext (fun i hi => ?_)
    have := (h i hi).trans ((e i hi).trans (g i hi).symm)
    cases hx : bt x i <;> cases hy : bt y i <;> simp [hx, hy] at this ⊢
theorem bm_eq0 {x : Int32} {P : Nat → Prop} (h : bm_S x P) : x = 0 ↔ ∀ f, f < 32 → ¬ P f := by
  rw [bm_eq h (bm_0 (P := fun _ => False) (fun _ _ z => z))]
  exact ⟨fun e f hf => fun z => (e f hf).mp z, fun e f hf => ⟨fun z => e f hf z, fun z => z.elim⟩⟩
theorem bm_ne0 {x : Int32} {P : Nat → Prop} (h : bm_S x P) : ¬ x = 0 ↔ ∃ f, f < 32 ∧ P f := by
  rw [bm_eq0 h]
  constructor
  · intro z
    exact Classical.byContradiction (fun y => z (fun f hf pf => y ⟨f, hf, pf⟩))
  · rintro ⟨f, hf, pf⟩ z
    exact z f hf pf
theorem bm_sb {x : Int32} {f : Nat} (hf : f < 32) : bm_S ((x >>> (nI f &&& 31)) &&& 1) (fun j => j = 0 ∧ bt x f = true) := fun j hj => by
  rw [b_and, b_sshr f hf x hj, bm_b1 j hj, Bool.and_eq_true, decide_eq_true_iff]
  constructor
  · rintro ⟨a, rfl⟩
    rw [if_pos (by omega)] at a
    exact ⟨rfl, a⟩
  · rintro ⟨rfl, a⟩
    rw [if_pos (by omega)]
    exact ⟨a, rfl⟩
theorem bm_bit0 {x : Int32} {P : Nat → Prop} {f : Nat} (h : bm_S x P) (hf : f < 32) : ((x >>> (nI f &&& 31)) &&& 1) = 0 ↔ ¬ P f := by
  rw [bm_eq0 (bm_sb hf), ← h f hf]
  exact ⟨fun e z => e 0 (by omega) ⟨rfl, z⟩, fun e j _ z => e z.2⟩
theorem bm_bit1 {x : Int32} {P : Nat → Prop} {f : Nat} (h : bm_S x P) (hf : f < 32) : ((x >>> (nI f &&& 31)) &&& 1) = 1 ↔ P f := by
  rw [bm_eq (bm_sb hf) (show bm_S 1 (fun j => j = 0) from fun j hj => by rw [bm_b1 j hj, decide_eq_true_iff]), ← h f hf]
  exact ⟨fun e => ((e 0 (by omega)).mpr rfl).2, fun e j _ => ⟨fun z => z.1, fun z => ⟨z, e⟩⟩⟩
theorem bm_shr {x : Int32} {P : Nat → Prop} {f : Nat} (h : bm_S x P) (hf : f < 32) : (x >>> (nI f &&& 31)) = 0 ↔ ∀ j, f ≤ j → j < 32 → ¬ P j := by
  have g : bm_S (x >>> (nI f &&& 31)) (fun j => P (if f + j < 32 then f + j else 31)) := fun j hj => by
    rw [b_sshr f hf x hj]
    by_cases e : f + j < 32
    · rw [if_pos e]
      show _ ↔ P (if f + j < 32 then f + j else 31)
      rw [if_pos e]
      exact h _ e
    · rw [if_neg e]
      show _ ↔ P (if f + j < 32 then f + j else 31)
      rw [if_neg e]
      exact h _ (by omega)
  rw [bm_eq0 g]
  constructor
  · intro e j h1 h2 pj
    refine e (j - f) (by omega) ?_
    show P (if f + (j - f) < 32 then f + (j - f) else 31)
    rw [if_pos (by omega), show f + (j - f) = j from by omega]
    exact pj
  · intro e j hj
    show ¬ P (if f + j < 32 then f + j else 31)
    by_cases q : f + j < 32
    · rw [if_pos q]; exact e _ (by omega) q
    · rw [if_neg q]; exact e _ (by omega) (by omega)
/-! the least number of a set below a bound -/
def sr_F (p : Nat → Bool) : Nat → Nat → Nat
  | 0, f => f
  | d + 1, f => if p f = true then f else sr_F p d (f + 1)
theorem sr_ge (p : Nat → Bool) : ∀ d f, f ≤ sr_F p d f := by
  intro d
  induction d with
  | zero => intro f; exact Nat.le_refl _
  | succ d ih =>
    intro f
    unfold sr_F
    by_cases e : p f = true
    · rw [if_pos e]; exact Nat.le_refl _
    · rw [if_neg e]; have := ih (f + 1); omega
theorem sr_le (p : Nat → Bool) : ∀ d f, sr_F p d f ≤ f + d := by
  intro d
  induction d with
  | zero => intro f; exact Nat.le_refl _
  | succ d ih =>
    intro f
    unfold sr_F
    by_cases e : p f = true
    · rw [if_pos e]; omega
    · rw [if_neg e]; have := ih (f + 1); omega
theorem sr_lo (p : Nat → Bool) : ∀ d f j, f ≤ j → j < sr_F p d f → p j = false := by
  intro d
  induction d with
  | zero => intro f j h1 h2; unfold sr_F at h2; omega
  | succ d ih =>
    intro f j h1 h2
    unfold sr_F at h2
    by_cases e : p f = true
    · rw [if_pos e] at h2; omega
    · rw [if_neg e] at h2
      by_cases q : j = f
      · subst q; exact Bool.eq_false_iff.mpr e
      · exact ih (f + 1) j (by omega) h2
theorem sr_hit (p : Nat → Bool) : ∀ d f, sr_F p d f < f + d → p (sr_F p d f) = true := by
  intro d
  induction d with
  | zero => intro f h; unfold sr_F at h; omega
  | succ d ih =>
    intro f h
    unfold sr_F at h ⊢
    by_cases e : p f = true
    · rw [if_pos e]; exact e
    · rw [if_neg e] at h ⊢
      exact ih (f + 1) (by omega)
/-- the least number below m with p (m if there is none) -/
def sr_L (p : Nat → Bool) (m : Nat) : Nat := sr_F p m 0
theorem sr_is {p : Nat → Bool} {m f : Nat} (hf : f < m) (pf : p f = true) (hl : ∀ j, j < f → p j = false) : sr_L p m = f := by
  rcases Nat.lt_trichotomy (sr_L p m) f with h | h | h
  · have a := sr_hit p m 0 (by unfold sr_L at h; omega)
    have b := hl _ h
    unfold sr_L at b
    rw [a] at b
    exact Bool.noConfusion b
  · exact h
  · have a := sr_lo p m 0 f (Nat.zero_le _) h
    rw [pf] at a
    exact Bool.noConfusion a
theorem sr_ex {p : Nat → Bool} {m : Nat} (h : ∃ f, f < m ∧ p f = true) : sr_L p m < m ∧ p (sr_L p m) = true ∧ ∀ j, j < sr_L p m → p j = false := by
  obtain ⟨f, hf, pf⟩ := h
  have a : sr_L p m ≤ f := by
    rcases Nat.lt_or_ge f (sr_L p m) with h | h
    · have a := sr_lo p m 0 f (Nat.zero_le _) h
      rw [pf] at a
      exact Bool.noConfusion a
    · exact h
  exact ⟨by omega, sr_hit p m 0 (by unfold sr_L at a; omega), fun j hj => sr_lo p m 0 j (Nat.zero_le _) hj⟩
/-! sums and stores of naturals -/
def sm_N (g : Nat → Nat) : Nat → Nat
  | 0 => 0
  | n + 1 => sm_N g n + g n
theorem sm_eq {g h : Nat → Nat} : ∀ n, (∀ k, k < n → g k = h k) → sm_N g n = sm_N h n := by
  intro n
  induction n with
  | zero => intro _; rfl
  | succ n ih => intro e; show sm_N g n + g n = sm_N h n + h n; rw [ih (fun k hk => e k (by omega)), e n (by omega)]
theorem sm_at {g : Nat → Nat} : ∀ n k, k < n → g k ≤ sm_N g n := by
  intro n
  induction n with
  | zero => intro k hk; omega
  | succ n ih =>
    intro k hk
    show g k ≤ sm_N g n + g n
    by_cases e : k = n
    · subst e; omega
    · have := ih k (by omega); omega
theorem sm_0 {g : Nat → Nat} : ∀ n, (∀ k, k < n → g k = 0) → sm_N g n = 0 := by
  intro n
  induction n with
  | zero => intro _; rfl
  | succ n ih => intro e; show sm_N g n + g n = 0; rw [ih (fun k hk => e k (by omega)), e n (by omega)]
def un_U (g : Nat → Nat) (k x : Nat) : Nat → Nat := fun j => if j = k then x else g j
theorem un_s {g : Nat → Nat} {k x : Nat} : un_U g k x k = x := if_pos rfl
theorem un_n {g : Nat → Nat} {k x j : Nat} (h : j ≠ k) : un_U g k x j = g j := if_neg h
theorem sm_un {g : Nat → Nat} {x : Nat} : ∀ n k, k < n → sm_N (un_U g k x) n + g k = sm_N g n + x := by
  intro n
  induction n with
  | zero => intro k hk; omega
  | succ n ih =>
    intro k hk
    show sm_N (un_U g k x) n + un_U g k x n + g k = sm_N g n + g n + x
    by_cases e : k = n
    · subst e
      rw [un_s, sm_eq k (h := g) (fun q hq => un_n (by omega))]
      omega
    · rw [un_n (by omega)]
      have := ih k (by omega)
      omega
theorem un_upd {a : Nat → Int32} {g : Nat → Nat} {m q x : Nat} {v : Int32} (h : ∀ k, k < m → a k = nI (g k)) (hv : v = nI x) : ∀ k, k < m → upd a q v k = nI (un_U g q x k) := by
  intro k hk
  by_cases e : k = q
  · subst e; rw [pk_us, un_s, hv]
  · rw [pk_un e, un_n e]; exact h k hk
end
section
/-! nets: nodes, flows, kinds, numbers, from, to, when -/
abbrev NT : Type := Nat × Nat × (Nat → Nat) × (Nat → Nat) × (Nat → Nat) × (Nat → Nat) × (Nat → Int32)
def nt_n (N : NT) : Nat := N.1
def nt_f (N : NT) : Nat := N.2.1
def nt_ki (N : NT) : Nat → Nat := N.2.2.1
def nt_nu (N : NT) : Nat → Nat := N.2.2.2.1
def nt_fr (N : NT) : Nat → Nat := N.2.2.2.2.1
def nt_to (N : NT) : Nat → Nat := N.2.2.2.2.2.1
def nt_wh (N : NT) : Nat → Int32 := N.2.2.2.2.2.2
/-- a draft that the calls node and flow have built -/
def nt_D (N : NT) : Prop := nt_n N ≤ 12 ∧ nt_f N ≤ 20 ∧ (∀ f, f < nt_f N → nt_fr N f < nt_n N ∧ nt_to N f < nt_n N) ∧
  (∀ n, n < nt_n N → nt_ki N n < 11 ∧ nt_nu N n < 27 ∧ (nt_ki N n = 6 → 0 < nt_nu N n ∧ nt_nu N n < 10) ∧ (nt_ki N n = 8 → nt_nu N n < 3) ∧ (nt_ki N n = 9 → nt_nu N n < 3)) ∧
  (∀ f, f < nt_f N → nt_wh N f = -1 ∨ ∃ q, q < 90 ∧ nt_wh N f = nI q)
/-- what a sound net has -/
def nt_W (N : NT) : Prop := nt_D N ∧ (∀ n, n < nt_n N → nt_ki N n = 0 → ∀ f, f < nt_f N → nt_to N f ≠ n) ∧
  (∀ n, n < nt_n N → nt_ki N n ≠ 1 → nt_ki N n ≠ 10 → ∃ f, f < nt_f N ∧ nt_fr N f = n) ∧
  (0 < nt_n N → ∃ s, s < nt_n N ∧ nt_ki N s = 0 ∧ ∀ n, n < nt_n N → nt_ki N n = 0 → n = s)
/-- the least flow that leaves n -/
def nt_lv (N : NT) (n : Nat) : Nat := sr_L (fun f => decide (nt_fr N f = n)) (nt_f N)
theorem nt_lvE {N : NT} {n : Nat} (h : ∃ f, f < nt_f N ∧ nt_fr N f = n) : nt_lv N n < nt_f N ∧ nt_fr N (nt_lv N n) = n ∧ ∀ j, j < nt_lv N n → nt_fr N j ≠ n := by
  obtain ⟨f, hf, e⟩ := h
  obtain ⟨a, b, d⟩ := sr_ex (p := fun f => decide (nt_fr N f = n)) (m := nt_f N) ⟨f, hf, decide_eq_true e⟩
  exact ⟨a, of_decide_eq_true b, fun j hj => of_decide_eq_false (d j hj)⟩
/-- the flows that are reached from node n without passing g -/
def nt_P (N : NT) (g n f : Nat) : Prop := ∀ S : Nat → Prop, (∀ f, f < nt_f N → nt_fr N f = n → S f) →
  (∀ f, f < nt_f N → S f → nt_to N f ≠ g → ∀ e, e < nt_f N → nt_fr N e = nt_to N f → S e) → S f
theorem nt_P0 {N : NT} {g n f : Nat} (hf : f < nt_f N) (h : nt_fr N f = n) : nt_P N g n f := fun _ h1 _ => h1 f hf h
theorem nt_P1 {N : NT} {g n f e : Nat} (hf : f < nt_f N) (h : nt_P N g n f) (hg : nt_to N f ≠ g) (he : e < nt_f N) (hh : nt_fr N e = nt_to N f) : nt_P N g n e :=
  fun S h1 h2 => h2 f hf (h S h1 h2) hg e he hh
/-- a token at m hinders the OR g, where P says which flows have tokens -/
def nt_H (N : NT) (P : Nat → Prop) (g m : Nat) : Prop := (∃ f, f < nt_f N ∧ nt_to N f = g ∧ nt_P N g m f) ∧ ∀ f, f < nt_f N → nt_to N f = g → nt_P N g m f → ¬ P f
def nt_Hd (N : NT) (P Q : Nat → Prop) (g : Nat) : Prop := (∃ f, f < nt_f N ∧ P f ∧ nt_to N f ≠ g ∧ nt_H N P g (nt_to N f)) ∨ (∃ m, m < nt_n N ∧ Q m ∧ nt_H N P g m)
def nt_Can (N : NT) (P Q : Nat → Prop) (n : Nat) : Prop := (∃ f, f < nt_f N ∧ nt_to N f = n ∧ P f) ∧ (nt_ki N n = 4 → ∀ f, f < nt_f N → nt_to N f = n → P f) ∧ (nt_ki N n = 5 → ¬ nt_Hd N P Q n)
theorem nt_H1 {N : NT} {P P' : Nat → Prop} {g m : Nat} (hP : ∀ f, f < nt_f N → (P' f → P f)) (h : nt_H N P g m) : nt_H N P' g m :=
  ⟨h.1, fun f hf e p z => h.2 f hf e p (hP f hf z)⟩
theorem nt_Hd1 {N : NT} {P P' Q Q' : Nat → Prop} {g : Nat} (hP : ∀ f, f < nt_f N → (P f ↔ P' f)) (hQ : ∀ m, m < nt_n N → (Q m ↔ Q' m)) (h : nt_Hd N P Q g) : nt_Hd N P' Q' g := by
  rcases h with ⟨f, hf, pf, hg, hh⟩ | ⟨m, hm, qm, hh⟩
  · exact Or.inl ⟨f, hf, (hP f hf).mp pf, hg, nt_H1 (fun f hf => (hP f hf).mpr) hh⟩
  · exact Or.inr ⟨m, hm, (hQ m hm).mp qm, nt_H1 (fun f hf => (hP f hf).mpr) hh⟩
theorem nt_Can1 {N : NT} {P P' Q Q' : Nat → Prop} {n : Nat} (hP : ∀ f, f < nt_f N → (P f ↔ P' f)) (hQ : ∀ m, m < nt_n N → (Q m ↔ Q' m)) (h : nt_Can N P Q n) : nt_Can N P' Q' n := by
  obtain ⟨⟨f, hf, e, pf⟩, h2, h3⟩ := h
  exact ⟨⟨f, hf, e, (hP f hf).mp pf⟩, fun k f hf e => (hP f hf).mp (h2 k f hf e), fun k z => h3 k (nt_Hd1 (fun f hf => (hP f hf).symm) (fun m hm => (hQ m hm).symm) z)⟩
theorem nt_CanI {N : NT} {P P' Q Q' : Nat → Prop} {n : Nat} (hP : ∀ f, f < nt_f N → (P f ↔ P' f)) (hQ : ∀ m, m < nt_n N → (Q m ↔ Q' m)) : nt_Can N P Q n ↔ nt_Can N P' Q' n :=
  ⟨nt_Can1 hP hQ, nt_Can1 (fun f hf => (hP f hf).symm) (fun m hm => (hQ m hm).symm)⟩
/-! the state that changes: tokens on flows, inside nodes, in timers by the time left, variables, messages, clock, acts -/
abbrev DS : Type := (Nat → Nat) × (Nat → Nat) × (Nat → Nat) × (Nat → Int32) × (Nat → Nat) × Nat × Nat
def ds_on (c : DS) : Nat → Nat := c.1
def ds_in (c : DS) : Nat → Nat := c.2.1
def ds_tm (c : DS) : Nat → Nat := c.2.2.1
def ds_va (c : DS) : Nat → Int32 := c.2.2.2.1
def ds_st (c : DS) : Nat → Nat := c.2.2.2.2.1
def ds_ck (c : DS) : Nat := c.2.2.2.2.2.1
def ds_ac (c : DS) : Nat := c.2.2.2.2.2.2
def ds_P (c : DS) (i f : Nat) : Prop := 0 < ds_on c (20 * i + f)
def ds_Q (c : DS) (i n : Nat) : Prop := 0 < ds_in c (12 * i + n)
def ds_Can (N : NT) (c : DS) (i n : Nat) : Prop := nt_Can N (ds_P c i) (ds_Q c i) n
def ds_Al (c : DS) (i : Nat) : Prop := (∃ f, f < 20 ∧ ds_P c i f) ∨ ∃ n, n < 12 ∧ ds_Q c i n
/-- the tokens of a node's timers -/
def ds_sm (c : DS) (k : Nat) : Nat := sm_N (fun t => ds_tm c (10 * k + t)) 10
def dc_on (c : DS) (g : Nat → Nat) : DS := (g, ds_in c, ds_tm c, ds_va c, ds_st c, ds_ck c, ds_ac c)
def dc_in (c : DS) (g : Nat → Nat) : DS := (ds_on c, g, ds_tm c, ds_va c, ds_st c, ds_ck c, ds_ac c)
def dc_tm (c : DS) (g : Nat → Nat) : DS := (ds_on c, ds_in c, g, ds_va c, ds_st c, ds_ck c, ds_ac c)
def dc_va (c : DS) (g : Nat → Int32) : DS := (ds_on c, ds_in c, ds_tm c, g, ds_st c, ds_ck c, ds_ac c)
def dc_st (c : DS) (g : Nat → Nat) : DS := (ds_on c, ds_in c, ds_tm c, ds_va c, g, ds_ck c, ds_ac c)
def dc_ac (c : DS) (a : Nat) : DS := (ds_on c, ds_in c, ds_tm c, ds_va c, ds_st c, ds_ck c, a)
def dc_put (c : DS) (i f : Nat) : DS := dc_on c (un_U (ds_on c) (20 * i + f) (ds_on c (20 * i + f) + 1))
def dc_take (c : DS) (i f : Nat) : DS := dc_on c (un_U (ds_on c) (20 * i + f) (ds_on c (20 * i + f) - 1))
def dc_ent (c : DS) (i n : Nat) : DS := dc_in c (un_U (ds_in c) (12 * i + n) (ds_in c (12 * i + n) + 1))
def dc_out (c : DS) (i n : Nat) : DS := dc_in c (un_U (ds_in c) (12 * i + n) (ds_in c (12 * i + n) - 1))
def dc_gon (N : NT) (c : DS) (i n : Nat) : DS := dc_put (dc_out c i n) i (nt_lv N n)
def dc_emp (c : DS) (i : Nat) : DS := (fun k => if 20 * i ≤ k ∧ k < 20 * i + 20 then 0 else ds_on c k, fun k => if 12 * i ≤ k ∧ k < 12 * i + 12 then 0 else ds_in c k,
  fun k => if 120 * i ≤ k ∧ k < 120 * i + 120 then 0 else ds_tm c k, ds_va c, ds_st c, ds_ck c, ds_ac c)
/-- what is kept true of it, with a bound B -/
def ic_C (N : NT) (B : Nat) (c : DS) : Prop :=
  (∀ i f, i < 3 → f < 20 → nt_f N ≤ f → ds_on c (20 * i + f) = 0) ∧
  (∀ i f, i < 3 → f < nt_f N → ds_on c (20 * i + f) + ds_in c (12 * i + nt_fr N f) ≤ B) ∧
  (∀ i n, i < 3 → n < 12 → 0 < ds_in c (12 * i + n) → n < nt_n N ∧ (nt_ki N n = 2 ∨ nt_ki N n = 6 ∨ nt_ki N n = 9)) ∧
  (∀ i n t, i < 3 → n < 12 → t < 10 → 0 < ds_tm c (10 * (12 * i + n) + t) → n < nt_n N ∧ nt_ki N n = 6 ∧ 0 < t) ∧
  (∀ i n, i < 3 → n < nt_n N → nt_ki N n = 6 → ds_in c (12 * i + n) = ds_sm c (12 * i + n)) ∧
  (∀ m, m < 3 → ds_st c m ≤ 9) ∧ ds_ck c ≤ B ∧ ds_ac c ≤ B
theorem ic_on {N : NT} {B : Nat} {c : DS} (h : ic_C N B c) {i f : Nat} (hi : i < 3) (hf : f < 20) : ds_on c (20 * i + f) ≤ B := by
  by_cases e : f < nt_f N
  · have := h.2.1 i f hi e; omega
  · have := h.1 i f hi hf (by omega); omega
theorem ic_in {N : NT} {B : Nat} {c : DS} (W : nt_W N) (h : ic_C N B c) {i n : Nat} (hi : i < 3) (hn : n < 12) : ds_in c (12 * i + n) ≤ B := by
  by_cases e : 0 < ds_in c (12 * i + n)
  · obtain ⟨a, b⟩ := h.2.2.1 i n hi hn e
    obtain ⟨f, hf, e2⟩ := W.2.2.1 n a (by omega) (by omega)
    have := h.2.1 i f hi hf
    rw [e2] at this
    omega
  · omega
theorem ic_P {N : NT} {B : Nat} {c : DS} (h : ic_C N B c) {i f : Nat} (hi : i < 3) (hf : f < 20) (p : ds_P c i f) : f < nt_f N := by
  by_cases e : f < nt_f N
  · exact e
  · have := h.1 i f hi hf (by omega)
    unfold ds_P at p
    omega
theorem ic_Q {N : NT} {B : Nat} {c : DS} (h : ic_C N B c) {i n : Nat} (hi : i < 3) (hn : n < 12) (p : ds_Q c i n) : n < nt_n N ∧ (nt_ki N n = 2 ∨ nt_ki N n = 6 ∨ nt_ki N n = 9) := h.2.2.1 i n hi hn p
/-- no timer, no tokens in its timers -/
theorem ic_sm0 {N : NT} {B : Nat} {c : DS} (h : ic_C N B c) {i n : Nat} (hi : i < 3) (hn : n < 12) (hk : ¬ (n < nt_n N ∧ nt_ki N n = 6)) : ds_sm c (12 * i + n) = 0 := by
  refine sm_0 _ (fun t ht => ?_)
  by_cases e : 0 < ds_tm c (10 * (12 * i + n) + t)
  · have := h.2.2.2.1 i n t hi hn ht e
    exact absurd ⟨this.1, this.2.1⟩ hk
  · show ds_tm c (10 * (12 * i + n) + t) = 0
    omega
theorem ic_sml {N : NT} {B : Nat} {c : DS} (h : ic_C N B c) {i n : Nat} (hi : i < 3) (hn : n < 12) : ds_sm c (12 * i + n) ≤ ds_in c (12 * i + n) := by
  by_cases e : n < nt_n N ∧ nt_ki N n = 6
  · rw [h.2.2.2.2.1 i n hi e.1 e.2]; exact Nat.le_refl _
  · rw [ic_sm0 h hi hn e]; exact Nat.zero_le _
theorem ic_up {N : NT} {B B' : Nat} {c : DS} (h : ic_C N B c) (e : B ≤ B') : ic_C N B' c :=
  ⟨h.1, fun i f hi hf => Nat.le_trans (h.2.1 i f hi hf) e, h.2.2.1, h.2.2.2.1, h.2.2.2.2.1, h.2.2.2.2.2.1, Nat.le_trans h.2.2.2.2.2.2.1 e, Nat.le_trans h.2.2.2.2.2.2.2 e⟩
/-- the kinds that can act -/
theorem ic_ki {N : NT} {c : DS} {i n : Nat} (W : nt_W N) (hn : n < nt_n N) (h : ds_Can N c i n) : nt_ki N n ≠ 0 := by
  intro e
  obtain ⟨f, hf, e2, _⟩ := h.1
  exact W.2.1 n hn e f hf e2
end
section
/-! X's state as a picture -/
theorem ix_m (a i f : Nat) : nI a * nI i + nI f = nI (a * i + f) := by rw [pk_mul, nI_add]
theorem ix_nb0 : vp_nar .boolean 0 = 0 := by rfl
theorem ix_nb1 : vp_nar .boolean 1 = 1 := by rfl
theorem ix_10 : ¬ (1 : Int32) = 0 := by decide
/-- the table of what is reached, of one OR -/
def xx_T (N : NT) (g : Nat) (a_reached : Nat → Int32) : Prop :=
  (∀ m, m < nt_n N → bm_S (a_reached (32 * g + 20 + m)) (fun f => f < nt_f N ∧ nt_to N f = g ∧ nt_P N g m f)) ∧
  (∀ f, f < nt_f N → nt_to N f ≠ g → bm_S (a_reached (32 * g + f)) (fun e => e < nt_f N ∧ nt_to N e = g ∧ nt_P N g (nt_to N f) e))
def xx_D (D : NT) (f_dNodes f_dFlows : Int32) (a_dKind a_dNumber a_dFrom a_dTo a_dWhen : Nat → Int32) : Prop :=
  f_dNodes = nI (nt_n D) ∧ f_dFlows = nI (nt_f D) ∧ (∀ n, n < nt_n D → a_dKind n = nI (nt_ki D n)) ∧ (∀ n, n < nt_n D → a_dNumber n = nI (nt_nu D n)) ∧
  (∀ f, f < nt_f D → a_dFrom f = nI (nt_fr D f)) ∧ (∀ f, f < nt_f D → a_dTo f = nI (nt_to D f)) ∧ (∀ f, f < nt_f D → a_dWhen f = nt_wh D f)
/-- masks of the flows that come to a node and leave it -/
def xx_L (N : NT) (a_comes a_leaves : Nat → Int32) : Prop :=
  (∀ n, n < nt_n N → bm_S (a_comes n) (fun f => f < nt_f N ∧ nt_to N f = n)) ∧ (∀ n, n < nt_n N → bm_S (a_leaves n) (fun f => f < nt_f N ∧ nt_fr N f = n))
def xx_N (N : NT) (f_nodes f_flows : Int32) (a_kind a_number a_from a_to a_when a_comes a_leaves a_reached : Nat → Int32) : Prop :=
  xx_D N f_nodes f_flows a_kind a_number a_from a_to a_when ∧ xx_L N a_comes a_leaves ∧ ∀ g, g < nt_n N → nt_ki N g = 5 → xx_T N g a_reached
def xx_S (c : DS) (ck ac : Int32) (on inn rg va st : Nat → Int32) : Prop :=
  (∀ k, k < 60 → on k = nI (ds_on c k)) ∧ (∀ k, k < 36 → inn k = nI (ds_in c k)) ∧ (∀ k t, k < 36 → t < 10 → rg (10 * k + (ds_ck c + t) % 10) = nI (ds_tm c (10 * k + t))) ∧
  (∀ k, k < 9 → va k = ds_va c k) ∧ (∀ k, k < 3 → st k = nI (ds_st c k)) ∧ ck = nI (ds_ck c) ∧ ac = nI (ds_ac c)
def xx_K (N : NT) (c : DS) (i : Nat) (mk hd ab kn : Int32) : Prop :=
  bm_S mk (fun f => f < 20 ∧ ds_P c i f) ∧ bm_S hd (fun n => n < 12 ∧ ds_Q c i n) ∧ (kn = 0 ∨ (kn = 1 ∧ bm_S ab (fun n => n < nt_n N ∧ ds_Can N c i n)))
def xx_M (N : NT) (c : DS) (a_marked a_holding a_ables a_known : Nat → Int32) : Prop := ∀ i, i < 3 → xx_K N c i (a_marked i) (a_holding i) (a_ables i) (a_known i)
/-- the same, but of token set i what is known may be stale -/
def xx_Mi (N : NT) (c : DS) (i : Nat) (a_marked a_holding a_ables a_known : Nat → Int32) : Prop :=
  (bm_S (a_marked i) (fun f => f < 20 ∧ ds_P c i f) ∧ bm_S (a_holding i) (fun n => n < 12 ∧ ds_Q c i n)) ∧ ∀ i', i' < 3 → i' ≠ i → xx_K N c i' (a_marked i') (a_holding i') (a_ables i') (a_known i')
def xx_J (j : DS) (a_journal : Nat → Int32) : Prop :=
  xx_S j (a_journal 468) (a_journal 469) a_journal (fun k => a_journal (60 + k)) (fun k => a_journal (96 + k)) (fun k => a_journal (456 + k)) (fun k => a_journal (465 + k))
def xx_R (N D : NT) (c j : DS) (u : SX) : Prop := match u with
  | (f_dNodes, f_dFlows, f_nodes, f_flows, f_clock, f_acts, a_dKind, a_dNumber, a_dFrom, a_dTo, a_dWhen, a_kind, a_number, a_from, a_to, a_when, a_comes, a_leaves, a_reached, a_onFlow, a_inNode, a_ring, a_variable, a_marked, a_holding, a_ables, a_known, a_stored, a_journal) => xx_D D f_dNodes f_dFlows a_dKind a_dNumber a_dFrom a_dTo a_dWhen ∧ xx_N N f_nodes f_flows a_kind a_number a_from a_to a_when a_comes a_leaves a_reached ∧
    xx_S c f_clock f_acts a_onFlow a_inNode a_ring a_variable a_stored ∧ xx_M N c a_marked a_holding a_ables a_known ∧ xx_J j a_journal
def xx_Ri (N D : NT) (c j : DS) (i : Nat) (u : SX) : Prop := match u with
  | (f_dNodes, f_dFlows, f_nodes, f_flows, f_clock, f_acts, a_dKind, a_dNumber, a_dFrom, a_dTo, a_dWhen, a_kind, a_number, a_from, a_to, a_when, a_comes, a_leaves, a_reached, a_onFlow, a_inNode, a_ring, a_variable, a_marked, a_holding, a_ables, a_known, a_stored, a_journal) => xx_D D f_dNodes f_dFlows a_dKind a_dNumber a_dFrom a_dTo a_dWhen ∧ xx_N N f_nodes f_flows a_kind a_number a_from a_to a_when a_comes a_leaves a_reached ∧
    xx_S c f_clock f_acts a_onFlow a_inNode a_ring a_variable a_stored ∧ xx_Mi N c i a_marked a_holding a_ables a_known ∧ xx_J j a_journal
/-- the mask of the nodes that can act, as it is kept -/
def xx_ab (u : SX) (i : Nat) : Int32 := match u with
  | (f_dNodes, f_dFlows, f_nodes, f_flows, f_clock, f_acts, a_dKind, a_dNumber, a_dFrom, a_dTo, a_dWhen, a_kind, a_number, a_from, a_to, a_when, a_comes, a_leaves, a_reached, a_onFlow, a_inNode, a_ring, a_variable, a_marked, a_holding, a_ables, a_known, a_stored, a_journal) => a_ables i
theorem xx_all {P : SX → Prop} (h : ∀ f_dNodes f_dFlows f_nodes f_flows f_clock f_acts a_dKind a_dNumber a_dFrom a_dTo a_dWhen a_kind a_number a_from a_to a_when a_comes a_leaves a_reached a_onFlow a_inNode a_ring a_variable a_marked a_holding a_ables a_known a_stored a_journal, P (f_dNodes, f_dFlows, f_nodes, f_flows, f_clock, f_acts, a_dKind, a_dNumber, a_dFrom, a_dTo, a_dWhen, a_kind, a_number, a_from, a_to, a_when, a_comes, a_leaves, a_reached, a_onFlow, a_inNode, a_ring, a_variable, a_marked, a_holding, a_ables, a_known, a_stored, a_journal)) (u : SX) : P u := h u.1 u.2.1 u.2.2.1 u.2.2.2.1 u.2.2.2.2.1 u.2.2.2.2.2.1 u.2.2.2.2.2.2.1 u.2.2.2.2.2.2.2.1 u.2.2.2.2.2.2.2.2.1 u.2.2.2.2.2.2.2.2.2.1 u.2.2.2.2.2.2.2.2.2.2.1 u.2.2.2.2.2.2.2.2.2.2.2.1 u.2.2.2.2.2.2.2.2.2.2.2.2.1 u.2.2.2.2.2.2.2.2.2.2.2.2.2.1 u.2.2.2.2.2.2.2.2.2.2.2.2.2.2.1 u.2.2.2.2.2.2.2.2.2.2.2.2.2.2.2.1 u.2.2.2.2.2.2.2.2.2.2.2.2.2.2.2.2.1 u.2.2.2.2.2.2.2.2.2.2.2.2.2.2.2.2.2.1 u.2.2.2.2.2.2.2.2.2.2.2.2.2.2.2.2.2.2.1 u.2.2.2.2.2.2.2.2.2.2.2.2.2.2.2.2.2.2.2.1 u.2.2.2.2.2.2.2.2.2.2.2.2.2.2.2.2.2.2.2.2.1 u.2.2.2.2.2.2.2.2.2.2.2.2.2.2.2.2.2.2.2.2.2.1 u.2.2.2.2.2.2.2.2.2.2.2.2.2.2.2.2.2.2.2.2.2.2.1 u.2.2.2.2.2.2.2.2.2.2.2.2.2.2.2.2.2.2.2.2.2.2.2.1 u.2.2.2.2.2.2.2.2.2.2.2.2.2.2.2.2.2.2.2.2.2.2.2.2.1 u.2.2.2.2.2.2.2.2.2.2.2.2.2.2.2.2.2.2.2.2.2.2.2.2.2.1 u.2.2.2.2.2.2.2.2.2.2.2.2.2.2.2.2.2.2.2.2.2.2.2.2.2.2.1 u.2.2.2.2.2.2.2.2.2.2.2.2.2.2.2.2.2.2.2.2.2.2.2.2.2.2.2.1 u.2.2.2.2.2.2.2.2.2.2.2.2.2.2.2.2.2.2.2.2.2.2.2.2.2.2.2.2
/-- the masks of a token set that nothing has changed -/
theorem xx_Kc {N : NT} {c c' : DS} {i : Nat} {mk hd ab kn : Int32} (hn : nt_n N ≤ 12) (hf : nt_f N ≤ 20) (h : xx_K N c i mk hd ab kn) (hP : ∀ f, f < 20 → (ds_P c i f ↔ ds_P c' i f)) (hQ : ∀ n, n < 12 → (ds_Q c i n ↔ ds_Q c' i n)) : xx_K N c' i mk hd ab kn := by
  refine ⟨bm_imp h.1 (fun f _ => ?_), bm_imp h.2.1 (fun n _ => ?_), ?_⟩
  · exact ⟨fun z => ⟨z.1, (hP f z.1).mp z.2⟩, fun z => ⟨z.1, (hP f z.1).mpr z.2⟩⟩
  · exact ⟨fun z => ⟨z.1, (hQ n z.1).mp z.2⟩, fun z => ⟨z.1, (hQ n z.1).mpr z.2⟩⟩
  · rcases h.2.2 with h | ⟨h, g⟩
    · exact Or.inl h
    · have e : ∀ n, ds_Can N c i n ↔ ds_Can N c' i n := fun n => nt_CanI (fun f q => hP f (by omega)) (fun m q => hQ m (by omega))
      exact Or.inr ⟨h, bm_imp g (fun n _ => ⟨fun z => ⟨z.1, (e n).mp z.2⟩, fun z => ⟨z.1, (e n).mpr z.2⟩⟩)⟩
theorem xx_Mw {N : NT} {c : DS} {i : Nat} {mk hd ab kn : Nat → Int32} (hi : i < 3) (h : xx_M N c mk hd ab kn) : xx_Mi N c i mk hd ab kn :=
  ⟨⟨(h i hi).1, (h i hi).2.1⟩, fun i' h' _ => h i' h'⟩
theorem xx_Rw {N D : NT} {c j : DS} {i : Nat} {u : SX} (hi : i < 3) (R : xx_R N D c j u) : xx_Ri N D c j i u := ⟨R.1, R.2.1, R.2.2.1, xx_Mw hi R.2.2.2.1, R.2.2.2.2⟩
/-- a change of one token set: its own masks are given anew, the rest is as it was -/
theorem xx_Mc {N : NT} {c c' : DS} {i : Nat} {mk hd ab kn : Nat → Int32} {mi hi : Int32} (W : nt_D N) (h : xx_Mi N c i mk hd ab kn)
    (ho : ∀ i' f, i' < 3 → i' ≠ i → f < 20 → ds_on c' (20 * i' + f) = ds_on c (20 * i' + f)) (hn : ∀ i' n, i' < 3 → i' ≠ i → n < 12 → ds_in c' (12 * i' + n) = ds_in c (12 * i' + n))
    (g1 : bm_S mi (fun f => f < 20 ∧ ds_P c' i f)) (g2 : bm_S hi (fun n => n < 12 ∧ ds_Q c' i n)) : xx_Mi N c' i (upd mk i mi) (upd hd i hi) ab kn := by
  refine ⟨?_, fun i' hi' e => ?_⟩
  · rw [pk_us, pk_us]; exact ⟨g1, g2⟩
  · rw [pk_un e, pk_un e]
    refine xx_Kc W.1 W.2.1 (h.2 i' hi' e) (fun f hf => ?_) (fun n hn' => ?_)
    · unfold ds_P; rw [ho i' f hi' e hf]
    · unfold ds_Q; rw [hn i' n hi' e hn']
theorem xx_M0 {N : NT} {c : DS} {i : Nat} {mk hd ab kn : Nat → Int32} (h : xx_Mi N c i mk hd ab kn) : xx_M N c mk hd ab (upd kn i 0) := by
  intro i' hi'
  by_cases e : i' = i
  · subst e
    rw [pk_us]
    exact ⟨h.1.1, h.1.2, Or.inl rfl⟩
  · rw [pk_un e]
    exact h.2 i' hi' e
theorem up_id {a : Nat → Int32} {k : Nat} : upd a k (a k) = a := by
  funext j
  by_cases e : j = k
  · subst e; exact pk_us
  · exact pk_un e
end
section
/-! X: least, put, take, enter, goOn, isAlive -/
theorem xl_least {post : Int32 → Prop} {x : Int32} {P : Nat → Prop} (h : bm_S x P) (he : ∃ f, f < 32 ∧ P f) (hp : ∀ f, f < 32 → P f → (∀ j, j < f → ¬ P j) → post (nI f)) : wpX_least post x := by
  obtain ⟨f, ⟨hf, pf⟩, hl⟩ := pk_least (fun f => f < 32 ∧ P f) he
  have L : ∀ d i, i + d = f → wX_least_2 post x (d + 1) (nI i) := by
    intro d
    induction d with
    | zero =>
      intro i hi
      have e : i = f := by omega
      subst e
      rw [wX_least_2]
      exact br_f (fun z => (bm_bit0 h hf).mp z pf) (hp i hf pf (fun j hj pj => hl j hj ⟨by omega, pj⟩))
    | succ d ih =>
      intro i hi
      rw [wX_least_2]
      exact br_t ((bm_bit0 h (by omega)).mpr (fun pj => hl i (by omega) ⟨by omega, pj⟩)) (nm_r (nI_1 i) (ih (i + 1) (by omega)))
  exact ⟨f + 1, L f 0 (by omega)⟩
theorem xl_put {post : SX → Prop} {N D : NT} {c j : DS} {u : SX} {i f : Nat} (W : nt_D N) (R : xx_Ri N D c j i u) (hi : i < 3) (hf : f < 20) (h : ∀ u', xx_R N D (dc_put c i f) j u' → post u') : wpX_put post u (nI i) (nI f) := by
  revert R
  refine xx_all (P := fun u => xx_Ri N D c j i u → wpX_put post u (nI i) (nI f)) ?_ u
  intro f_dNodes f_dFlows f_nodes f_flows f_clock f_acts a_dKind a_dNumber a_dFrom a_dTo a_dWhen a_kind a_number a_from a_to a_when a_comes a_leaves a_reached a_onFlow a_inNode a_ring a_variable a_marked a_holding a_ables a_known a_stored a_journal R
  obtain ⟨RD, RN, RS, RM, RJ⟩ := R
  have e : 20 * nI i + nI f = nI (20 * i + f) := ix_m 20 i f
  have v : vp_in (20 * nI i + nI f) 60 := by rw [e]; exact vp_in_nI (by omega) (by omega)
  have k : (20 * nI i + nI f).toNatClampNeg = 20 * i + f := by rw [e]; exact nI_clamp (by omega)
  have vi : vp_in (nI i) 3 := vp_in_nI hi (by omega)
  have ki : (nI i).toNatClampNeg = i := nI_clamp (by omega)
  have G := RM.1
  refine And.intro v (And.intro v (nm_r (e' := upd a_onFlow (20 * i + f) (nI (ds_on c (20 * i + f) + 1))) (by rw [k, RS.1 _ (by omega), nI_1]) (And.intro vi (And.intro vi (nm_r (e' := upd a_marked i (a_marked i ||| ((1 : Int32) <<< (nI f &&& 31)))) (by rw [ki]) (And.intro vi (nm_r (e' := upd a_known i 0) (by rw [ki, ix_nb0]) (h _ ⟨RD, RN, ?_, ?_, RJ⟩))))))))
  · exact ⟨un_upd RS.1 rfl, RS.2⟩
  · have Q : xx_M N (dc_put c i f) (upd a_marked i (a_marked i ||| ((1 : Int32) <<< (nI f &&& 31)))) (upd a_holding i (a_holding i)) a_ables (upd a_known i 0) := by
      refine xx_M0 (xx_Mc W RM (fun i' f' h1 h2 h3 => un_n (by omega)) (fun i' n h1 h2 h3 => rfl) (bm_imp (bm_or1 G.1 (by omega)) (fun f' hf' => ?_)) G.2)
      show (f' < 20 ∧ ds_P c i f') ∨ f' = f ↔ f' < 20 ∧ 0 < un_U (ds_on c) (20 * i + f) (ds_on c (20 * i + f) + 1) (20 * i + f')
      by_cases q : f' = f
      · subst q; rw [un_s]; exact ⟨fun _ => ⟨hf, by omega⟩, fun _ => Or.inr rfl⟩
      · rw [un_n (by omega)]; exact ⟨fun z => z.resolve_right q, Or.inl⟩
    rw [up_id] at Q
    exact Q
theorem xl_take {post : SX → Prop} {N D : NT} {c j : DS} {u : SX} {i f : Nat} (W : nt_D N) (R : xx_R N D c j u) (hi : i < 3) (hf : f < 20) (h0 : 0 < ds_on c (20 * i + f)) (h1 : ds_on c (20 * i + f) < 2 ^ 31) (h : ∀ u', xx_R N D (dc_take c i f) j u' → post u') : wpX_take post u (nI i) (nI f) := by
  revert R
  refine xx_all (P := fun u => xx_R N D c j u → wpX_take post u (nI i) (nI f)) ?_ u
  intro f_dNodes f_dFlows f_nodes f_flows f_clock f_acts a_dKind a_dNumber a_dFrom a_dTo a_dWhen a_kind a_number a_from a_to a_when a_comes a_leaves a_reached a_onFlow a_inNode a_ring a_variable a_marked a_holding a_ables a_known a_stored a_journal R
  obtain ⟨RD, RN, RS, RM, RJ⟩ := R
  have e : 20 * nI i + nI f = nI (20 * i + f) := ix_m 20 i f
  have v : vp_in (20 * nI i + nI f) 60 := by rw [e]; exact vp_in_nI (by omega) (by omega)
  have k : (20 * nI i + nI f).toNatClampNeg = 20 * i + f := by rw [e]; exact nI_clamp (by omega)
  have vi : vp_in (nI i) 3 := vp_in_nI hi (by omega)
  have ki : (nI i).toNatClampNeg = i := nI_clamp (by omega)
  have G := RM i hi
  have x1 : a_onFlow (20 * nI i + nI f).toNatClampNeg - 1 = nI (ds_on c (20 * i + f) - 1) := by rw [k, RS.1 _ (by omega)]; exact pk_sub (a := ds_on c (20 * i + f)) (b := 1) h0
  have S' : xx_S (dc_take c i f) f_clock f_acts (upd a_onFlow (20 * i + f) (nI (ds_on c (20 * i + f) - 1))) a_inNode a_ring a_variable a_stored := ⟨un_upd RS.1 rfl, RS.2⟩
  refine And.intro v (And.intro v (nm_r (e' := upd a_onFlow (20 * i + f) (nI (ds_on c (20 * i + f) - 1))) (by rw [x1, k]) ?_))
  rw [x1]
  refine pk_eq (ds_on c (20 * i + f) - 1) 0 (fun z => And.intro vi (And.intro vi (nm_r (e' := upd a_marked i (a_marked i &&& (((1 : Int32) <<< (nI f &&& 31)) ^^^ (-1)))) (by rw [ki]) (And.intro vi (nm_r (e' := upd a_known i 0) (by rw [ki, ix_nb0]) (h _ ⟨RD, RN, S', ?_, RJ⟩)))))) (fun z => And.intro vi (nm_r (e' := upd a_known i 0) (by rw [ki, ix_nb0]) (h _ ⟨RD, RN, S', ?_, RJ⟩)))
  · have Q : xx_M N (dc_take c i f) (upd a_marked i (a_marked i &&& (((1 : Int32) <<< (nI f &&& 31)) ^^^ (-1)))) (upd a_holding i (a_holding i)) a_ables (upd a_known i 0) := by
      refine xx_M0 (xx_Mc W (xx_Mw hi RM) (fun i' f' h1 h2 h3 => un_n (by omega)) (fun i' n h1 h2 h3 => rfl) (bm_imp (bm_clr G.1 (by omega)) (fun f' hf' => ?_)) G.2.1)
      show (f' < 20 ∧ ds_P c i f') ∧ ¬ f' = f ↔ f' < 20 ∧ 0 < un_U (ds_on c) (20 * i + f) (ds_on c (20 * i + f) - 1) (20 * i + f')
      by_cases q : f' = f
      · subst q; rw [un_s, z]; exact ⟨fun y => absurd rfl y.2, fun y => absurd y.2 (by omega)⟩
      · rw [un_n (by omega)]; exact ⟨fun z => z.1, fun z => ⟨z, q⟩⟩
    rw [up_id] at Q
    exact Q
  · have Q : xx_M N (dc_take c i f) (upd a_marked i (a_marked i)) (upd a_holding i (a_holding i)) a_ables (upd a_known i 0) := by
      refine xx_M0 (xx_Mc W (xx_Mw hi RM) (fun i' f' h1 h2 h3 => un_n (by omega)) (fun i' n h1 h2 h3 => rfl) (bm_imp G.1 (fun f' hf' => ?_)) G.2.1)
      show (f' < 20 ∧ ds_P c i f') ↔ f' < 20 ∧ 0 < un_U (ds_on c) (20 * i + f) (ds_on c (20 * i + f) - 1) (20 * i + f')
      by_cases q : f' = f
      · subst q; rw [un_s]; exact ⟨fun y => ⟨y.1, by omega⟩, fun y => ⟨y.1, h0⟩⟩
      · rw [un_n (by omega)]; exact Iff.rfl
    rw [up_id, up_id] at Q
    exact Q
theorem xl_enter {post : SX → Prop} {N D : NT} {c j : DS} {u : SX} {i n : Nat} (W : nt_D N) (R : xx_R N D c j u) (hi : i < 3) (hn : n < 12) (h : ∀ u', xx_R N D (dc_ent c i n) j u' → post u') : wpX_enter post u (nI i) (nI n) := by
  revert R
  refine xx_all (P := fun u => xx_R N D c j u → wpX_enter post u (nI i) (nI n)) ?_ u
  intro f_dNodes f_dFlows f_nodes f_flows f_clock f_acts a_dKind a_dNumber a_dFrom a_dTo a_dWhen a_kind a_number a_from a_to a_when a_comes a_leaves a_reached a_onFlow a_inNode a_ring a_variable a_marked a_holding a_ables a_known a_stored a_journal R
  obtain ⟨RD, RN, RS, RM, RJ⟩ := R
  have e : 12 * nI i + nI n = nI (12 * i + n) := ix_m 12 i n
  have v : vp_in (12 * nI i + nI n) 36 := by rw [e]; exact vp_in_nI (by omega) (by omega)
  have k : (12 * nI i + nI n).toNatClampNeg = 12 * i + n := by rw [e]; exact nI_clamp (by omega)
  have vi : vp_in (nI i) 3 := vp_in_nI hi (by omega)
  have ki : (nI i).toNatClampNeg = i := nI_clamp (by omega)
  have G := RM i hi
  refine And.intro v (And.intro v (nm_r (e' := upd a_inNode (12 * i + n) (nI (ds_in c (12 * i + n) + 1))) (by rw [k, RS.2.1 _ (by omega), nI_1]) (And.intro vi (And.intro vi (nm_r (e' := upd a_holding i (a_holding i ||| ((1 : Int32) <<< (nI n &&& 31)))) (by rw [ki]) (And.intro vi (nm_r (e' := upd a_known i 0) (by rw [ki, ix_nb0]) (h _ ⟨RD, RN, ?_, ?_, RJ⟩))))))))
  · exact ⟨RS.1, un_upd RS.2.1 rfl, RS.2.2⟩
  · have Q : xx_M N (dc_ent c i n) (upd a_marked i (a_marked i)) (upd a_holding i (a_holding i ||| ((1 : Int32) <<< (nI n &&& 31)))) a_ables (upd a_known i 0) := by
      refine xx_M0 (xx_Mc W (xx_Mw hi RM) (fun i' f' h1 h2 h3 => rfl) (fun i' n' h1 h2 h3 => un_n (by omega)) G.1 (bm_imp (bm_or1 G.2.1 (by omega)) (fun f' hf' => ?_)))
      show (f' < 12 ∧ ds_Q c i f') ∨ f' = n ↔ f' < 12 ∧ 0 < un_U (ds_in c) (12 * i + n) (ds_in c (12 * i + n) + 1) (12 * i + f')
      by_cases q : f' = n
      · subst q; rw [un_s]; exact ⟨fun _ => ⟨hn, by omega⟩, fun _ => Or.inr rfl⟩
      · rw [un_n (by omega)]; exact ⟨fun z => z.resolve_right q, Or.inl⟩
    rw [up_id] at Q
    exact Q
/-- the least flow that leaves a node, as X finds it -/
theorem xl_lv {post : Int32 → Prop} {N : NT} {n : Nat} {x : Int32} (hf : nt_f N ≤ 20) (B : bm_S x (fun f => f < nt_f N ∧ nt_fr N f = n)) (hl : ∃ f, f < nt_f N ∧ nt_fr N f = n) (h : post (nI (nt_lv N n))) : wpX_least post x := by
  obtain ⟨lv1, lv2, lv3⟩ := nt_lvE hl
  refine xl_least B ⟨nt_lv N n, by omega, lv1, lv2⟩ (fun f _ pf hl => ?_)
  have ef : f = nt_lv N n := by
    rcases Nat.lt_trichotomy f (nt_lv N n) with q | q | q
    · exact absurd pf.2 (lv3 f q)
    · exact q
    · exact absurd ⟨lv1, lv2⟩ (hl _ q)
  rw [ef]
  exact h
theorem xl_goOn1 {post : SX → Prop} {N D : NT} {c j : DS} {i n : Nat} {f_dNodes f_dFlows f_nodes f_flows f_clock f_acts : Int32} {a_dKind a_dNumber a_dFrom a_dTo a_dWhen a_kind a_number a_from a_to a_when a_comes a_leaves a_reached a_onFlow a_inNode a_ring a_variable a_marked a_holding a_ables a_known a_stored a_journal : Nat → Int32} (W : nt_W N) (R : xx_Ri N D c j i (f_dNodes, f_dFlows, f_nodes, f_flows, f_clock, f_acts, a_dKind, a_dNumber, a_dFrom, a_dTo, a_dWhen, a_kind, a_number, a_from, a_to, a_when, a_comes, a_leaves, a_reached, a_onFlow, a_inNode, a_ring, a_variable, a_marked, a_holding, a_ables, a_known, a_stored, a_journal)) (hi : i < 3) (hn : n < nt_n N) (hl : ∃ f, f < nt_f N ∧ nt_fr N f = n) (h : ∀ u', xx_R N D (dc_put c i (nt_lv N n)) j u' → post u') : wX_goOn_33 post (nI i) (nI n) f_dNodes f_dFlows f_nodes f_flows f_clock f_acts a_dKind a_dNumber a_dFrom a_dTo a_dWhen a_kind a_number a_from a_to a_when a_comes a_leaves a_reached a_onFlow a_inNode a_ring a_variable a_marked a_holding a_ables a_known a_stored a_journal := by
  have hn12 : n < 12 := by have := W.1.1; omega
  have vn : vp_in (nI n) 12 := vp_in_nI hn12 (by omega)
  have kn : (nI n).toNatClampNeg = n := nI_clamp (by omega)
  refine And.intro vn ?_
  rw [kn]
  refine xl_lv W.1.2.1 (R.2.1.2.1.2 n hn) hl (xl_put W.1 R hi (by have := (nt_lvE hl).1; have := W.1.2.1; omega) ?_)
  exact xx_all (fun f_dNodes f_dFlows f_nodes f_flows f_clock f_acts a_dKind a_dNumber a_dFrom a_dTo a_dWhen a_kind a_number a_from a_to a_when a_comes a_leaves a_reached a_onFlow a_inNode a_ring a_variable a_marked a_holding a_ables a_known a_stored a_journal R' => h _ R')
theorem xl_goOn {post : SX → Prop} {N D : NT} {c j : DS} {u : SX} {i n : Nat} (W : nt_W N) (R : xx_R N D c j u) (hi : i < 3) (hn : n < nt_n N) (hl : ∃ f, f < nt_f N ∧ nt_fr N f = n) (h0 : 0 < ds_in c (12 * i + n)) (h1 : ds_in c (12 * i + n) < 2 ^ 31) (h : ∀ u', xx_R N D (dc_gon N c i n) j u' → post u') : wpX_goOn post u (nI i) (nI n) := by
  have hn12 : n < 12 := by have := W.1.1; omega
  have hf20 := W.1.2.1
  obtain ⟨lv1, lv2, lv3⟩ := nt_lvE hl
  revert R
  refine xx_all (P := fun u => xx_R N D c j u → wpX_goOn post u (nI i) (nI n)) ?_ u
  intro f_dNodes f_dFlows f_nodes f_flows f_clock f_acts a_dKind a_dNumber a_dFrom a_dTo a_dWhen a_kind a_number a_from a_to a_when a_comes a_leaves a_reached a_onFlow a_inNode a_ring a_variable a_marked a_holding a_ables a_known a_stored a_journal R
  obtain ⟨RD, RN, RS, RM, RJ⟩ := R
  have e : 12 * nI i + nI n = nI (12 * i + n) := ix_m 12 i n
  have v : vp_in (12 * nI i + nI n) 36 := by rw [e]; exact vp_in_nI (by omega) (by omega)
  have k : (12 * nI i + nI n).toNatClampNeg = 12 * i + n := by rw [e]; exact nI_clamp (by omega)
  have vi : vp_in (nI i) 3 := vp_in_nI hi (by omega)
  have ki : (nI i).toNatClampNeg = i := nI_clamp (by omega)
  have vn : vp_in (nI n) 12 := vp_in_nI hn12 (by omega)
  have kn : (nI n).toNatClampNeg = n := nI_clamp (by omega)
  have G := RM i hi
  have x1 : a_inNode (12 * nI i + nI n).toNatClampNeg - 1 = nI (ds_in c (12 * i + n) - 1) := by rw [k, RS.2.1 _ (by omega)]; exact pk_sub (a := ds_in c (12 * i + n)) (b := 1) h0
  have S' : xx_S (dc_out c i n) f_clock f_acts a_onFlow (upd a_inNode (12 * i + n) (nI (ds_in c (12 * i + n) - 1))) a_ring a_variable a_stored := ⟨RS.1, un_upd RS.2.1 rfl, RS.2.2⟩
  refine And.intro v (And.intro v (nm_r (e' := upd a_inNode (12 * i + n) (nI (ds_in c (12 * i + n) - 1))) (by rw [x1, k]) ?_))
  rw [x1]
  refine pk_eq (ds_in c (12 * i + n) - 1) 0 (fun z => And.intro vi (And.intro vi (nm_r (e' := upd a_holding i (a_holding i &&& (((1 : Int32) <<< (nI n &&& 31)) ^^^ (-1)))) (by rw [ki]) (xl_goOn1 W ⟨RD, RN, S', ?_, RJ⟩ hi hn hl h)))) (fun z => xl_goOn1 W ⟨RD, RN, S', ?_, RJ⟩ hi hn hl h)
  · have Q : xx_Mi N (dc_out c i n) i (upd a_marked i (a_marked i)) (upd a_holding i (a_holding i &&& (((1 : Int32) <<< (nI n &&& 31)) ^^^ (-1)))) a_ables a_known := by
      refine xx_Mc W.1 (xx_Mw hi RM) (fun i' f' h1 h2 h3 => rfl) (fun i' n' h1 h2 h3 => un_n (by omega)) G.1 (bm_imp (bm_clr G.2.1 (by omega)) (fun f' hf' => ?_))
      show (f' < 12 ∧ ds_Q c i f') ∧ ¬ f' = n ↔ f' < 12 ∧ 0 < un_U (ds_in c) (12 * i + n) (ds_in c (12 * i + n) - 1) (12 * i + f')
      by_cases q : f' = n
      · subst q; rw [un_s, z]; exact ⟨fun y => absurd rfl y.2, fun y => absurd y.2 (by omega)⟩
      · rw [un_n (by omega)]; exact ⟨fun z => z.1, fun z => ⟨z, q⟩⟩
    rw [up_id] at Q
    exact Q
  · have Q : xx_Mi N (dc_out c i n) i (upd a_marked i (a_marked i)) (upd a_holding i (a_holding i)) a_ables a_known := by
      refine xx_Mc W.1 (xx_Mw hi RM) (fun i' f' h1 h2 h3 => rfl) (fun i' n' h1 h2 h3 => un_n (by omega)) G.1 (bm_imp G.2.1 (fun f' hf' => ?_))
      show (f' < 12 ∧ ds_Q c i f') ↔ f' < 12 ∧ 0 < un_U (ds_in c) (12 * i + n) (ds_in c (12 * i + n) - 1) (12 * i + f')
      by_cases q : f' = n
      · subst q; rw [un_s]; exact ⟨fun y => ⟨y.1, by omega⟩, fun y => ⟨y.1, h0⟩⟩
      · rw [un_n (by omega)]; exact Iff.rfl
    rw [up_id, up_id] at Q
    exact Q
theorem xl_isAlive {post : Int32 → Prop} {N D : NT} {c j : DS} {u : SX} {i : Nat} (R : xx_R N D c j u) (hi : i < 3) (h1 : ds_Al c i → post 1) (h0 : ¬ ds_Al c i → post 0) : wpX_isAlive post u (nI i) := by
  revert R
  refine xx_all (P := fun u => xx_R N D c j u → wpX_isAlive post u (nI i)) ?_ u
  intro f_dNodes f_dFlows f_nodes f_flows f_clock f_acts a_dKind a_dNumber a_dFrom a_dTo a_dWhen a_kind a_number a_from a_to a_when a_comes a_leaves a_reached a_onFlow a_inNode a_ring a_variable a_marked a_holding a_ables a_known a_stored a_journal R
  obtain ⟨RD, RN, RS, RM, RJ⟩ := R
  have vi : vp_in (nI i) 3 := vp_in_nI hi (by omega)
  have ki : (nI i).toNatClampNeg = i := nI_clamp (by omega)
  have G := RM i hi
  rw [← ki] at G
  have Z := bm_or G.1 G.2.1
  refine And.intro vi (And.intro vi (br_c (fun z => h0 ?_) (fun z => h1 ?_)))
  · have z' := (bm_eq0 Z).mp z
    rw [ki] at z'
    rintro (⟨f, hf, p⟩ | ⟨n, hn, p⟩)
    · exact z' f (by omega) (Or.inl ⟨hf, p⟩)
    · exact z' n (by omega) (Or.inr ⟨hn, p⟩)
  · obtain ⟨f, hf, p⟩ := (bm_ne0 Z).mp z
    rw [ki] at p
    rcases p with p | p
    · exact Or.inl ⟨f, p.1, p.2⟩
    · exact Or.inr ⟨f, p.1, p.2⟩
end
section
/-! X: hindered, can, ableNodes -/
theorem xl_H {N : NT} {P : Nat → Prop} {g m : Nat} {z y : Int32} (hf : nt_f N ≤ 20) (hz : bm_S z (fun f => f < nt_f N ∧ nt_to N f = g ∧ nt_P N g m f)) (hy : bm_S y (fun f => (f < 20 ∧ P f) ∧ f < nt_f N ∧ nt_to N f = g)) : nt_H N P g m ↔ (¬ z = 0 ∧ z &&& y = 0) := by
  rw [bm_ne0 hz, bm_eq0 (bm_and hz hy)]
  constructor
  · rintro ⟨⟨f, h1, h2, h3⟩, h4⟩
    exact ⟨⟨f, by omega, h1, h2, h3⟩, fun e _ q => h4 e q.1.1 q.1.2.1 q.1.2.2 q.2.1.2⟩
  · rintro ⟨⟨f, _, h1, h2, h3⟩, h4⟩
    exact ⟨⟨f, h1, h2, h3⟩, fun e he q1 q2 p => h4 e (by omega) ⟨⟨he, q1, q2⟩, ⟨by omega, p⟩, he, q1⟩⟩
theorem xl_h140 {post : Int32 → Prop} {J : Int32 → Prop} {H : Prop} {x2 x3 x5 z : Int32} {m : Nat} {f_dNodes f_dFlows f_nodes f_flows f_clock f_acts : Int32} {a_dKind a_dNumber a_dFrom a_dTo a_dWhen a_kind a_number a_from a_to a_when a_comes a_leaves a_reached a_onFlow a_inNode a_ring a_variable a_marked a_holding a_ables a_known a_stored a_journal : Nat → Int32} (e : H ↔ (¬ z = 0 ∧ z &&& x3 = 0)) (h1 : H → post 1) (h0 : ¬ H → J (nI (m + 1))) : wX_hindered_140 post J x2 x3 x5 (nI m) z f_dNodes f_dFlows f_nodes f_flows f_clock f_acts a_dKind a_dNumber a_dFrom a_dTo a_dWhen a_kind a_number a_from a_to a_when a_comes a_leaves a_reached a_onFlow a_inNode a_ring a_variable a_marked a_holding a_ables a_known a_stored a_journal := by
  refine br_c (fun a => nm_r (nI_1 m) (h0 (fun q => (e.mp q).1 a))) (fun a => br_c (fun b => h1 (e.mpr ⟨a, b⟩)) (fun b => nm_r (nI_1 m) (h0 (fun q => b (e.mp q).2))))
theorem xl_h77 {post : Int32 → Prop} {J : Int32 → Prop} {H : Prop} {x2 x3 x4 x5 z : Int32} {m : Nat} {f_dNodes f_dFlows f_nodes f_flows f_clock f_acts : Int32} {a_dKind a_dNumber a_dFrom a_dTo a_dWhen a_kind a_number a_from a_to a_when a_comes a_leaves a_reached a_onFlow a_inNode a_ring a_variable a_marked a_holding a_ables a_known a_stored a_journal : Nat → Int32} (e : H ↔ (¬ z = 0 ∧ z &&& x3 = 0)) (h1 : H → post 1) (h0 : ¬ H → J (nI (m + 1))) : wX_hindered_77 post J x2 x3 x4 x5 (nI m) z f_dNodes f_dFlows f_nodes f_flows f_clock f_acts a_dKind a_dNumber a_dFrom a_dTo a_dWhen a_kind a_number a_from a_to a_when a_comes a_leaves a_reached a_onFlow a_inNode a_ring a_variable a_marked a_holding a_ables a_known a_stored a_journal := by
  refine br_c (fun a => nm_r (nI_1 m) (h0 (fun q => (e.mp q).1 a))) (fun a => br_c (fun b => h1 (e.mpr ⟨a, b⟩)) (fun b => nm_r (nI_1 m) (h0 (fun q => b (e.mp q).2))))
theorem xl_h102 {post : Int32 → Prop} {N : NT} {P Q : Nat → Prop} {g : Nat} {x3 x5 : Int32} {f_dNodes f_dFlows f_nodes f_flows f_clock f_acts : Int32} {a_dKind a_dNumber a_dFrom a_dTo a_dWhen a_kind a_number a_from a_to a_when a_comes a_leaves a_reached a_onFlow a_inNode a_ring a_variable a_marked a_holding a_ables a_known a_stored a_journal : Nat → Int32} (W : nt_D N) (hg : g < nt_n N) (T : xx_T N g a_reached) (hy : bm_S x3 (fun f => (f < 20 ∧ P f) ∧ f < nt_f N ∧ nt_to N f = g)) (h5 : bm_S x5 (fun n => n < 12 ∧ Q n)) (hQ : ∀ n, n < 12 → Q n → n < nt_n N)
    (h1 : (∃ m, m < nt_n N ∧ Q m ∧ nt_H N P g m) → post 1) (h0 : (¬ ∃ m, m < nt_n N ∧ Q m ∧ nt_H N P g m) → post 0) : ∀ d m, m + d = 12 → (∀ m', m' < m → Q m' → ¬ nt_H N P g m') → wX_hindered_102 post (nI g) x3 x5 f_dNodes f_dFlows f_nodes f_flows f_clock f_acts a_dKind a_dNumber a_dFrom a_dTo a_dWhen a_kind a_number a_from a_to a_when a_comes a_leaves a_reached a_onFlow a_inNode a_ring a_variable a_marked a_holding a_ables a_known a_stored a_journal (d + 1) (nI m) := by
  have W12 := W.1
  have W20 := W.2.1
  intro d
  induction d with
  | zero =>
    intro m hm hl
    rw [wX_hindered_102]
    refine br_t ((bm_shr h5 (by omega)).mpr (fun j h1 h2 h3 => by omega)) (h0 ?_)
    rintro ⟨m', a, b, e⟩
    exact hl m' (by omega) b e
  | succ d ih =>
    intro m hm hl
    have vm : ((32 * nI g + 20) + nI m) = nI (32 * g + 20 + m) := by
      rw [show (32 : Int32) * nI g + 20 = nI (32 * g + 20) from ix_m 32 g 20, nI_add]
    have hv : vp_in ((32 * nI g + 20) + nI m) 384 := by rw [vm]; exact vp_in_nI (by omega) (by omega)
    have hk : ((32 * nI g + 20) + nI m).toNatClampNeg = 32 * g + 20 + m := by rw [vm]; exact nI_clamp (by omega)
    rw [wX_hindered_102]
    refine br_c (fun z => h0 ?_) (fun z => br_c (fun b => And.intro hv ?_) (fun b => ?_))
    · rintro ⟨m', a, b, e⟩
      by_cases q : m' < m
      · exact hl m' q b e
      · exact (bm_shr h5 (by omega)).mp z m' (by omega) (by omega) ⟨by omega, b⟩
    · have qm := (bm_bit1 h5 (by omega)).mp b
      have hmn := hQ m qm.1 qm.2
      rw [hk]
      refine xl_h140 (xl_H W20 (T.1 m hmn) hy) (fun e => h1 ⟨m, hmn, qm.2, e⟩) (fun e => ih (m + 1) (by omega) (fun m' a b => ?_))
      by_cases q : m' = m
      · subst q; exact e
      · exact hl m' (by omega) b
    · refine br_t rfl (nm_r (nI_1 m) (ih (m + 1) (by omega) (fun m' a c => ?_)))
      by_cases q : m' = m
      · subst q; exact absurd ((bm_bit1 h5 (by omega)).mpr ⟨by omega, c⟩) b
      · exact hl m' (by omega) c
theorem xl_h42 {post : Int32 → Prop} {N : NT} {P Q : Nat → Prop} {g : Nat} {x3 x4 x5 : Int32} {f_dNodes f_dFlows f_nodes f_flows f_clock f_acts : Int32} {a_dKind a_dNumber a_dFrom a_dTo a_dWhen a_kind a_number a_from a_to a_when a_comes a_leaves a_reached a_onFlow a_inNode a_ring a_variable a_marked a_holding a_ables a_known a_stored a_journal : Nat → Int32} (W : nt_D N) (hg : g < nt_n N) (T : xx_T N g a_reached) (hy : bm_S x3 (fun f => (f < 20 ∧ P f) ∧ f < nt_f N ∧ nt_to N f = g)) (h4 : bm_S x4 (fun f => (f < 20 ∧ P f) ∧ ¬ (f < nt_f N ∧ nt_to N f = g))) (h5 : bm_S x5 (fun n => n < 12 ∧ Q n)) (hQ : ∀ n, n < 12 → Q n → n < nt_n N) (hP : ∀ f, f < 20 → P f → f < nt_f N)
    (h1 : nt_Hd N P Q g → post 1) (h0 : ¬ nt_Hd N P Q g → post 0) : ∀ d m, m + d = 20 → (∀ f, f < m → f < nt_f N → P f → nt_to N f ≠ g → ¬ nt_H N P g (nt_to N f)) → wX_hindered_42 post (nI g) x3 x4 x5 f_dNodes f_dFlows f_nodes f_flows f_clock f_acts a_dKind a_dNumber a_dFrom a_dTo a_dWhen a_kind a_number a_from a_to a_when a_comes a_leaves a_reached a_onFlow a_inNode a_ring a_variable a_marked a_holding a_ables a_known a_stored a_journal (d + 1) (nI m) := by
  have W12 := W.1
  have W20 := W.2.1
  have F : (¬ ∃ f, f < nt_f N ∧ P f ∧ nt_to N f ≠ g ∧ nt_H N P g (nt_to N f)) → ∃ n102, wX_hindered_102 post (nI g) x3 x5 f_dNodes f_dFlows f_nodes f_flows f_clock f_acts a_dKind a_dNumber a_dFrom a_dTo a_dWhen a_kind a_number a_from a_to a_when a_comes a_leaves a_reached a_onFlow a_inNode a_ring a_variable a_marked a_holding a_ables a_known a_stored a_journal n102 0 := fun z =>
    ⟨13, xl_h102 W hg T hy h5 hQ (fun e => h1 (Or.inr e)) (fun e => h0 (fun q => q.elim z e)) 12 0 (by omega) (fun m' hm => by omega)⟩
  intro d
  induction d with
  | zero =>
    intro m hm hl
    rw [wX_hindered_42]
    refine br_t ((bm_shr h4 (by omega)).mpr (fun j h1 h2 h3 => by omega)) (F ?_)
    rintro ⟨f, a, b, e, q⟩
    exact hl f (by omega) a b e q
  | succ d ih =>
    intro m hm hl
    have vm : (32 * nI g + nI m) = nI (32 * g + m) := ix_m 32 g m
    have hv : vp_in (32 * nI g + nI m) 384 := by rw [vm]; exact vp_in_nI (by omega) (by omega)
    have hk : (32 * nI g + nI m).toNatClampNeg = 32 * g + m := by rw [vm]; exact nI_clamp (by omega)
    rw [wX_hindered_42]
    refine br_c (fun z => F ?_) (fun z => br_c (fun b => And.intro hv ?_) (fun b => ?_))
    · rintro ⟨f, a, b, e, q⟩
      by_cases r : f < m
      · exact hl f r a b e q
      · exact (bm_shr h4 (by omega)).mp z f (by omega) (by omega) ⟨⟨by omega, b⟩, fun w => e w.2⟩
    · have qm := (bm_bit1 h4 (by omega)).mp b
      have hmn := hP m qm.1.1 qm.1.2
      have hne : nt_to N m ≠ g := fun w => qm.2 ⟨hmn, w⟩
      rw [hk]
      refine xl_h77 (xl_H W20 (T.2 m hmn hne) hy) (fun e => h1 (Or.inl ⟨m, hmn, qm.1.2, hne, e⟩)) (fun e => ih (m + 1) (by omega) (fun f a b c d => ?_))
      by_cases q : f = m
      · subst q; exact e
      · exact hl f (by omega) b c d
    · refine br_t rfl (nm_r (nI_1 m) (ih (m + 1) (by omega) (fun f a c d e => ?_)))
      by_cases q : f = m
      · subst q; exact absurd ((bm_bit1 h4 (by omega)).mpr ⟨⟨by omega, d⟩, fun w => e w.2⟩) b
      · exact hl f (by omega) c d e
theorem xl_hindered {post : Int32 → Prop} {N D : NT} {B : Nat} {c j : DS} {i g : Nat} {f_dNodes f_dFlows f_nodes f_flows f_clock f_acts : Int32} {a_dKind a_dNumber a_dFrom a_dTo a_dWhen a_kind a_number a_from a_to a_when a_comes a_leaves a_reached a_onFlow a_inNode a_ring a_variable a_marked a_holding a_ables a_known a_stored a_journal : Nat → Int32} (W : nt_W N) (I : ic_C N B c) (R : xx_R N D c j (f_dNodes, f_dFlows, f_nodes, f_flows, f_clock, f_acts, a_dKind, a_dNumber, a_dFrom, a_dTo, a_dWhen, a_kind, a_number, a_from, a_to, a_when, a_comes, a_leaves, a_reached, a_onFlow, a_inNode, a_ring, a_variable, a_marked, a_holding, a_ables, a_known, a_stored, a_journal)) (hi : i < 3) (hg : g < nt_n N) (hk : nt_ki N g = 5) (h1 : nt_Hd N (ds_P c i) (ds_Q c i) g → post 1) (h0 : ¬ nt_Hd N (ds_P c i) (ds_Q c i) g → post 0) : wpX_hindered post (f_dNodes, f_dFlows, f_nodes, f_flows, f_clock, f_acts, a_dKind, a_dNumber, a_dFrom, a_dTo, a_dWhen, a_kind, a_number, a_from, a_to, a_when, a_comes, a_leaves, a_reached, a_onFlow, a_inNode, a_ring, a_variable, a_marked, a_holding, a_ables, a_known, a_stored, a_journal) (nI i) (nI g) := by
  obtain ⟨RD, RN, RS, RM, RJ⟩ := R
  have W12 := W.1.1
  have vi : vp_in (nI i) 3 := vp_in_nI hi (by omega)
  have vg : vp_in (nI g) 12 := vp_in_nI (by omega) (by omega)
  have ki : (nI i).toNatClampNeg = i := nI_clamp (by omega)
  have kg : (nI g).toNatClampNeg = g := nI_clamp (by omega)
  have G := RM i hi
  have K := RN.2.1.1 g hg
  refine And.intro vi (And.intro vg (nm_r (e' := a_marked i &&& a_comes g) (by rw [ki, kg]) (And.intro vi (And.intro vg (nm_r (e' := a_marked i &&& (a_comes g ^^^ (-1))) (by rw [ki, kg]) (And.intro vi (nm_r (e' := a_holding i) (by rw [ki]) ⟨21, ?_⟩)))))))
  exact xl_h42 (P := ds_P c i) (Q := ds_Q c i) W.1 hg (RN.2.2 g hg hk) (bm_and G.1 K) (bm_and G.1 (bm_not K)) G.2.1 (fun n h q => (ic_Q I hi h q).1) (fun f h q => ic_P I hi h q) h1 h0 20 0 (by omega) (fun f h => by omega)
theorem xl_can {post : Int32 → Prop} {N D : NT} {B : Nat} {c j : DS} {i n : Nat} {f_dNodes f_dFlows f_nodes f_flows f_clock f_acts : Int32} {a_dKind a_dNumber a_dFrom a_dTo a_dWhen a_kind a_number a_from a_to a_when a_comes a_leaves a_reached a_onFlow a_inNode a_ring a_variable a_marked a_holding a_ables a_known a_stored a_journal : Nat → Int32} (W : nt_W N) (I : ic_C N B c) (R : xx_R N D c j (f_dNodes, f_dFlows, f_nodes, f_flows, f_clock, f_acts, a_dKind, a_dNumber, a_dFrom, a_dTo, a_dWhen, a_kind, a_number, a_from, a_to, a_when, a_comes, a_leaves, a_reached, a_onFlow, a_inNode, a_ring, a_variable, a_marked, a_holding, a_ables, a_known, a_stored, a_journal)) (hi : i < 3) (hn : n < nt_n N) (h1 : ds_Can N c i n → post 1) (h0 : ¬ ds_Can N c i n → post 0) : wpX_can post (f_dNodes, f_dFlows, f_nodes, f_flows, f_clock, f_acts, a_dKind, a_dNumber, a_dFrom, a_dTo, a_dWhen, a_kind, a_number, a_from, a_to, a_when, a_comes, a_leaves, a_reached, a_onFlow, a_inNode, a_ring, a_variable, a_marked, a_holding, a_ables, a_known, a_stored, a_journal) (nI i) (nI n) := by
  have R' := R
  obtain ⟨RD, RN, RS, RM, RJ⟩ := R
  have W12 := W.1.1
  have W20 := W.1.2.1
  have vi : vp_in (nI i) 3 := vp_in_nI hi (by omega)
  have vn : vp_in (nI n) 12 := vp_in_nI (by omega) (by omega)
  have ki : (nI i).toNatClampNeg = i := nI_clamp (by omega)
  have kn : (nI n).toNatClampNeg = n := nI_clamp (by omega)
  have G := RM i hi
  have K := RN.2.1.1 n hn
  have Z := bm_and G.1 K
  have ek : a_kind (nI n).toNatClampNeg = nI (nt_ki N n) := by rw [kn]; exact RN.1.2.2.1 n hn
  have kb : nt_ki N n < 11 := (W.1.2.2.2.1 n hn).1
  have ek2 : (nI (nt_ki N n) = 4 ↔ nt_ki N n = 4) := nI_eq (b := 4) (by omega) (by decide)
  have ek3 : (nI (nt_ki N n) = 5 ↔ nt_ki N n = 5) := nI_eq (b := 5) (by omega) (by decide)
  have sm : (¬ a_marked i &&& a_comes n = 0) ↔ ∃ f, f < nt_f N ∧ nt_to N f = n ∧ ds_P c i f := by
    rw [bm_ne0 Z]
    exact ⟨fun ⟨f, _, a, b⟩ => ⟨f, b.1, b.2, a.2⟩, fun ⟨f, a, b, e⟩ => ⟨f, by omega, ⟨by omega, e⟩, a, b⟩⟩
  have al : (a_marked i &&& a_comes n = a_comes n) ↔ ∀ f, f < nt_f N → nt_to N f = n → ds_P c i f := by
    rw [bm_eq Z K]
    exact ⟨fun z f a b => ((z f (by omega)).mpr ⟨a, b⟩).1.2, fun z f _ => ⟨fun q => q.2, fun q => ⟨⟨by omega, z f q.1 q.2⟩, q⟩⟩⟩
  refine And.intro vi (And.intro vn (nm_r (e' := a_marked i &&& a_comes n) (by rw [ki, kn]) (br_c (fun z => h0 (fun q => sm.mpr q.1 z)) (fun z => And.intro vn ?_))))
  rw [ek]
  refine br_c (fun k4 => And.intro vn ?_) (fun k4 => And.intro vn (br_c (fun k5 => ?_) (fun k5 => h1 ⟨sm.mp z, fun q => absurd (ek2.mpr q) k4, fun q => absurd (ek3.mpr q) k5⟩)))
  · rw [kn]
    exact br_c (fun q => h1 ⟨sm.mp z, fun _ => al.mp q, fun q5 => by have := ek2.mp k4; omega⟩) (fun q => h0 (fun w => q (al.mpr (w.2.1 (ek2.mp k4)))))
  · exact xl_hindered W I R' hi hn (ek3.mp k5) (fun q => br_f ix_10 (h0 (fun w => w.2.2 (ek3.mp k5) q))) (fun q => br_t rfl (h1 ⟨sm.mp z, fun w => absurd (ek2.mpr w) k4, fun _ => q⟩))
theorem xl_ab20 {post : Int32 → SX → Prop} {N D : NT} {B : Nat} {c j : DS} {i : Nat} {f_dNodes f_dFlows f_nodes f_flows f_clock f_acts : Int32} {a_dKind a_dNumber a_dFrom a_dTo a_dWhen a_kind a_number a_from a_to a_when a_comes a_leaves a_reached a_onFlow a_inNode a_ring a_variable a_marked a_holding a_ables a_known a_stored a_journal : Nat → Int32} (W : nt_W N) (I : ic_C N B c) (R : xx_R N D c j (f_dNodes, f_dFlows, f_nodes, f_flows, f_clock, f_acts, a_dKind, a_dNumber, a_dFrom, a_dTo, a_dWhen, a_kind, a_number, a_from, a_to, a_when, a_comes, a_leaves, a_reached, a_onFlow, a_inNode, a_ring, a_variable, a_marked, a_holding, a_ables, a_known, a_stored, a_journal)) (hi : i < 3) (h : ∀ r u', bm_S r (fun n => n < nt_n N ∧ ds_Can N c i n) → xx_R N D c j u' → xx_ab u' i = r → post r u') :
    ∀ d n s, n + d = nt_n N → bm_S s (fun m => m < n ∧ ds_Can N c i m) → wX_ableNodes_20 post (nI i) f_dNodes f_dFlows f_nodes f_flows f_clock f_acts a_dKind a_dNumber a_dFrom a_dTo a_dWhen a_kind a_number a_from a_to a_when a_comes a_leaves a_reached a_onFlow a_inNode a_ring a_variable a_marked a_holding a_ables a_known a_stored a_journal (d + 1) s (nI n) := by
  have R' := R
  obtain ⟨RD, RN, RS, RM, RJ⟩ := R
  have W12 := W.1.1
  have vi : vp_in (nI i) 3 := vp_in_nI hi (by omega)
  have ki : (nI i).toNatClampNeg = i := nI_clamp (by omega)
  have en : f_nodes = nI (nt_n N) := RN.1.1
  intro d
  induction d with
  | zero =>
    intro n s hn hs
    have e : n = nt_n N := by omega
    subst e
    rw [wX_ableNodes_20]
    refine br_t (by rw [en]; exact nI_le (Nat.le_refl _) (by omega)) (And.intro vi (nm_r (e' := upd a_ables i s) (by rw [ki]) (And.intro vi (nm_r (e' := upd a_known i 1) (by rw [ki, ix_nb1]) (h s _ hs ⟨RD, RN, RS, ?_, RJ⟩ (by show upd a_ables i s i = s; exact pk_us))))))
    intro i' hi'
    by_cases e : i' = i
    · subst e
      rw [pk_us, pk_us]
      exact ⟨(RM i' hi').1, (RM i' hi').2.1, Or.inr ⟨rfl, hs⟩⟩
    · rw [pk_un e, pk_un e]
      exact RM i' hi'
  | succ d ih =>
    intro n s hn hs
    rw [wX_ableNodes_20]
    refine br_f (by rw [en]; exact nI_ge (by omega) (by omega)) (xl_can W I R' hi (by omega) (fun q => br_f ix_10 (nm_e (nm_r (nI_1 n) (ih (n + 1) _ (by omega) (bm_imp (bm_or1 hs (by omega)) (fun m _ => ?_)))))) (fun q => br_t rfl (nm_r (nI_1 n) (ih (n + 1) s (by omega) (bm_imp hs (fun m _ => ?_))))))
    · constructor
      · rintro (a | a)
        · exact ⟨by omega, a.2⟩
        · subst a; exact ⟨by omega, q⟩
      · rintro ⟨a, b⟩
        by_cases e : m = n
        · exact Or.inr e
        · exact Or.inl ⟨by omega, b⟩
    · constructor
      · exact fun a => ⟨by omega, a.2⟩
      · rintro ⟨a, b⟩
        by_cases e : m = n
        · subst e; exact absurd b q
        · exact ⟨by omega, b⟩
theorem xl_ableNodes {post : Int32 → SX → Prop} {N D : NT} {B : Nat} {c j : DS} {i : Nat} {f_dNodes f_dFlows f_nodes f_flows f_clock f_acts : Int32} {a_dKind a_dNumber a_dFrom a_dTo a_dWhen a_kind a_number a_from a_to a_when a_comes a_leaves a_reached a_onFlow a_inNode a_ring a_variable a_marked a_holding a_ables a_known a_stored a_journal : Nat → Int32} (W : nt_W N) (I : ic_C N B c) (R : xx_R N D c j (f_dNodes, f_dFlows, f_nodes, f_flows, f_clock, f_acts, a_dKind, a_dNumber, a_dFrom, a_dTo, a_dWhen, a_kind, a_number, a_from, a_to, a_when, a_comes, a_leaves, a_reached, a_onFlow, a_inNode, a_ring, a_variable, a_marked, a_holding, a_ables, a_known, a_stored, a_journal)) (hi : i < 3) (h : ∀ r u', bm_S r (fun n => n < nt_n N ∧ ds_Can N c i n) → xx_R N D c j u' → xx_ab u' i = r → post r u') : wpX_ableNodes post (f_dNodes, f_dFlows, f_nodes, f_flows, f_clock, f_acts, a_dKind, a_dNumber, a_dFrom, a_dTo, a_dWhen, a_kind, a_number, a_from, a_to, a_when, a_comes, a_leaves, a_reached, a_onFlow, a_inNode, a_ring, a_variable, a_marked, a_holding, a_ables, a_known, a_stored, a_journal) (nI i) := by
  have R' := R
  obtain ⟨RD, RN, RS, RM, RJ⟩ := R
  have vi : vp_in (nI i) 3 := vp_in_nI hi (by omega)
  have ki : (nI i).toNatClampNeg = i := nI_clamp (by omega)
  have G := RM i hi
  refine And.intro vi ?_
  rw [ki]
  rcases G.2.2 with q | q
  · refine br_t q ⟨nt_n N + 1, ?_⟩
    exact xl_ab20 W I R' hi h (nt_n N) 0 0 (by omega) (bm_0 (fun f _ z => by omega))
  · exact br_f (by rw [q.1]; exact ix_10) (And.intro vi (h _ _ q.2 R' rfl))
end
section
/-! conditions, the flows that are chosen, folds of puts and takes -/
def ds_hq (q : Nat) (v : Int32) : Bool := if q / 3 % 3 = 0 then decide (¬ nI (q / 9) ≤ v) else if q / 3 % 3 = 1 then decide (v = nI (q / 9)) else decide (¬ v < nI (q / 9))
def ds_h (N : NT) (c : DS) (i f : Nat) : Bool := if nt_wh N f = -1 then true else ds_hq (nt_wh N f).toNatClampNeg (ds_va c (3 * i + (nt_wh N f).toNatClampNeg % 3))
def sr_G (p : Nat → Bool) : Nat → Nat
  | 0 => 0
  | m + 1 => if p m = true then m else sr_G p m
theorem sr_Gl {p : Nat → Bool} : ∀ m, (∃ f, f < m ∧ p f = true) → sr_G p m < m ∧ p (sr_G p m) = true ∧ ∀ e, sr_G p m < e → e < m → p e = false := by
  intro m
  induction m with
  | zero => rintro ⟨f, h, _⟩; omega
  | succ m ih =>
    rintro ⟨f, h, e⟩
    unfold sr_G
    by_cases q : p m = true
    · rw [if_pos q]
      exact ⟨by omega, q, fun e h1 h2 => by omega⟩
    · rw [if_neg q]
      have hf : f < m := by
        rcases Nat.lt_or_ge f m with z | z
        · exact z
        · have : f = m := by omega
          subst this
          exact absurd e q
      obtain ⟨a, b, d⟩ := ih ⟨f, hf, e⟩
      refine ⟨by omega, b, fun e h1 h2 => ?_⟩
      by_cases z : e = m
      · subst z; exact Bool.eq_false_iff.mpr q
      · exact d e h1 (by omega)
/-- the greatest flow that leaves n -/
def nt_la (N : NT) (n : Nat) : Nat := sr_G (fun f => decide (nt_fr N f = n)) (nt_f N)
theorem nt_laE {N : NT} {n : Nat} (h : ∃ f, f < nt_f N ∧ nt_fr N f = n) : nt_la N n < nt_f N ∧ nt_fr N (nt_la N n) = n ∧ ∀ j, nt_la N n < j → j < nt_f N → nt_fr N j ≠ n := by
  obtain ⟨f, hf, e⟩ := h
  obtain ⟨a, b, d⟩ := sr_Gl (p := fun f => decide (nt_fr N f = n)) (nt_f N) ⟨f, hf, decide_eq_true e⟩
  exact ⟨a, of_decide_eq_true b, fun j h1 h2 => of_decide_eq_false (d j h1 h2)⟩
def ds_s1 (N : NT) (c : DS) (i n e : Nat) : Bool := decide (nt_fr N e = n) && ds_h N c i e
theorem ds_s1i {N : NT} {c : DS} {i n e : Nat} : ds_s1 N c i n e = true ↔ nt_fr N e = n ∧ ds_h N c i e = true := by
  unfold ds_s1
  rw [Bool.and_eq_true, decide_eq_true_iff]
def ds_an (N : NT) (c : DS) (i n : Nat) : Prop := ∃ e, e < nt_f N ∧ ds_s1 N c i n e = true
def dc_sp (c : DS) (i : Nat) (S : Nat → Bool) : Nat → DS
  | 0 => c
  | f + 1 => if S f = true then dc_put (dc_sp c i S f) i f else dc_sp c i S f
def dc_tk (c : DS) (i : Nat) (S : Nat → Bool) : Nat → DS
  | 0 => c
  | f + 1 => if S f = true then dc_take (dc_tk c i S f) i f else dc_tk c i S f
theorem dc_spT {c : DS} {i f : Nat} {S : Nat → Bool} (h : S f = true) : dc_sp c i S (f + 1) = dc_put (dc_sp c i S f) i f := if_pos h
theorem dc_spF {c : DS} {i f : Nat} {S : Nat → Bool} (h : ¬ S f = true) : dc_sp c i S (f + 1) = dc_sp c i S f := if_neg h
theorem dc_tkT {c : DS} {i f : Nat} {S : Nat → Bool} (h : S f = true) : dc_tk c i S (f + 1) = dc_take (dc_tk c i S f) i f := if_pos h
theorem dc_tkF {c : DS} {i f : Nat} {S : Nat → Bool} (h : ¬ S f = true) : dc_tk c i S (f + 1) = dc_tk c i S f := if_neg h
theorem dc_spE {c : DS} {i f : Nat} {S : Nat → Bool} : ∀ d, (∀ e, f ≤ e → e < f + d → ¬ S e = true) → dc_sp c i S (f + d) = dc_sp c i S f := by
  intro d
  induction d with
  | zero => intro _; rfl
  | succ d ih => intro h; exact (dc_spF (h (f + d) (by omega) (by omega))).trans (ih (fun e h1 h2 => h e h1 (by omega)))
theorem dc_tkE {c : DS} {i f : Nat} {S : Nat → Bool} : ∀ d, (∀ e, f ≤ e → e < f + d → ¬ S e = true) → dc_tk c i S (f + d) = dc_tk c i S f := by
  intro d
  induction d with
  | zero => intro _; rfl
  | succ d ih => intro h; exact (dc_tkF (h (f + d) (by omega) (by omega))).trans (ih (fun e h1 h2 => h e h1 (by omega)))
theorem dc_spC {c : DS} {i : Nat} {S T : Nat → Bool} : ∀ m, (∀ e, e < m → S e = T e) → dc_sp c i S m = dc_sp c i T m := by
  intro m
  induction m with
  | zero => intro _; rfl
  | succ m ih =>
    intro h
    show (if S m = true then _ else _) = (if T m = true then _ else _)
    rw [h m (by omega), ih (fun e he => h e (by omega))]
/-- everything but the tokens on flows is as it was -/
theorem dc_sp2 {c : DS} {i : Nat} {S : Nat → Bool} : ∀ m, (dc_sp c i S m).2 = c.2 := by
  intro m
  induction m with
  | zero => rfl
  | succ m ih =>
    by_cases e : S m = true
    · rw [dc_spT e]; exact ih
    · rw [dc_spF e]; exact ih
theorem dc_tk2 {c : DS} {i : Nat} {S : Nat → Bool} : ∀ m, (dc_tk c i S m).2 = c.2 := by
  intro m
  induction m with
  | zero => rfl
  | succ m ih =>
    by_cases e : S m = true
    · rw [dc_tkT e]; exact ih
    · rw [dc_tkF e]; exact ih
theorem dc_spO {c : DS} {i : Nat} {S : Nat → Bool} : ∀ m k, ds_on (dc_sp c i S m) k = ds_on c k + (if 20 * i ≤ k ∧ k < 20 * i + m ∧ S (k - 20 * i) = true then 1 else 0) := by
  intro m
  induction m with
  | zero => intro k; rw [if_neg (by omega)]; rfl
  | succ m ih =>
    intro k
    by_cases e : S m = true
    · rw [dc_spT e]
      show un_U (ds_on (dc_sp c i S m)) (20 * i + m) (ds_on (dc_sp c i S m) (20 * i + m) + 1) k = _
      by_cases q : k = 20 * i + m
      · subst q
        rw [un_s, ih, if_neg (by omega), if_pos ⟨by omega, by omega, by rw [Nat.add_sub_cancel_left]; exact e⟩]
      · rw [un_n q, ih]
        congr 1
        by_cases r : 20 * i ≤ k ∧ k < 20 * i + m ∧ S (k - 20 * i) = true
        · rw [if_pos r, if_pos ⟨r.1, by omega, r.2.2⟩]
        · rw [if_neg r, if_neg (fun z => r ⟨z.1, by omega, z.2.2⟩)]
    · rw [dc_spF e, ih]
      congr 1
      by_cases r : 20 * i ≤ k ∧ k < 20 * i + m ∧ S (k - 20 * i) = true
      · rw [if_pos r, if_pos ⟨r.1, by omega, r.2.2⟩]
      · rw [if_neg r, if_neg]
        rintro ⟨z1, z2, z3⟩
        by_cases q : k = 20 * i + m
        · subst q; rw [Nat.add_sub_cancel_left] at z3; exact e z3
        · exact r ⟨z1, by omega, z3⟩
theorem dc_tkO {c : DS} {i : Nat} {S : Nat → Bool} : ∀ m k, ds_on (dc_tk c i S m) k = ds_on c k - (if 20 * i ≤ k ∧ k < 20 * i + m ∧ S (k - 20 * i) = true then 1 else 0) := by
  intro m
  induction m with
  | zero => intro k; rw [if_neg (by omega)]; rfl
  | succ m ih =>
    intro k
    by_cases e : S m = true
    · rw [dc_tkT e]
      show un_U (ds_on (dc_tk c i S m)) (20 * i + m) (ds_on (dc_tk c i S m) (20 * i + m) - 1) k = _
      by_cases q : k = 20 * i + m
      · subst q
        rw [un_s, ih, if_neg (by omega), if_pos ⟨by omega, by omega, by rw [Nat.add_sub_cancel_left]; exact e⟩]
        rfl
      · rw [un_n q, ih]
        congr 1
        by_cases r : 20 * i ≤ k ∧ k < 20 * i + m ∧ S (k - 20 * i) = true
        · rw [if_pos r, if_pos ⟨r.1, by omega, r.2.2⟩]
        · rw [if_neg r, if_neg (fun z => r ⟨z.1, by omega, z.2.2⟩)]
    · rw [dc_tkF e, ih]
      congr 1
      by_cases r : 20 * i ≤ k ∧ k < 20 * i + m ∧ S (k - 20 * i) = true
      · rw [if_pos r, if_pos ⟨r.1, by omega, r.2.2⟩]
      · rw [if_neg r, if_neg]
        rintro ⟨z1, z2, z3⟩
        by_cases q : k = 20 * i + m
        · subst q; rw [Nat.add_sub_cancel_left] at z3; exact e z3
        · exact r ⟨z1, by omega, z3⟩
theorem ix_wh {w : Int32} (h : w = -1 ∨ ∃ q, q < 90 ∧ w = nI q) : (w = -1 ∧ ¬ 0 ≤ w) ∨ ∃ q, q < 90 ∧ w = nI q ∧ 0 ≤ w ∧ w ≠ -1 ∧ w.toNatClampNeg = q := by
  rcases h with h | ⟨q, hq, h⟩
  · subst h; exact Or.inl ⟨rfl, by decide⟩
  · subst h
    have a : 0 ≤ nI q := nI_pos' (by omega)
    exact Or.inr ⟨q, hq, rfl, a, fun z => by rw [z] at a; exact absurd a (by decide), nI_clamp (by omega)⟩
theorem ix_30 : ¬ (3 : Int32) = 0 := by decide
theorem ix_90 : ¬ (9 : Int32) = 0 := by decide
theorem ix_hb {v y : Int32} {q : Nat} {A B C D E F : Prop} {b : Bool} {op : Int32} (hb : b = ds_hq q v) (hop : op = nI (q / 3 % 3)) (hy : y = nI (q / 9)) (hq : q < 90) (h1 : b = true → (A ∧ D) ∧ F) (h0 : b = false → (B ∧ C) ∧ E) :
    (op = 0 → (y ≤ v → B) ∧ (¬ y ≤ v → A)) ∧ (¬ op = 0 → (op = 1 → (v = y → D) ∧ (¬ v = y → C)) ∧ (¬ op = 1 → (v < y → E) ∧ (¬ v < y → F))) := by
  subst hop hy
  unfold ds_hq at hb
  refine pk_eq (q / 3 % 3) 0 (fun z => ?_) (fun z => pk_eq (q / 3 % 3) 1 (fun z1 => ?_) (fun z1 => ?_))
  · rw [if_pos z] at hb
    exact ⟨fun e => (h0 (hb.trans (decide_eq_false (fun w => w e)))).1.1, fun e => (h1 (hb.trans (decide_eq_true e))).1.1⟩
  · rw [if_neg z, if_pos z1] at hb
    exact ⟨fun e => (h1 (hb.trans (decide_eq_true e))).1.2, fun e => (h0 (hb.trans (decide_eq_false e))).1.2⟩
  · rw [if_neg z, if_neg z1] at hb
    exact ⟨fun e => (h0 (hb.trans (decide_eq_false (fun w => w e)))).2, fun e => (h1 (hb.trans (decide_eq_true e))).2⟩
theorem xl_holds {post : Int32 → Prop} {N D : NT} {c j : DS} {i f : Nat} {f_dNodes f_dFlows f_nodes f_flows f_clock f_acts : Int32} {a_dKind a_dNumber a_dFrom a_dTo a_dWhen a_kind a_number a_from a_to a_when a_comes a_leaves a_reached a_onFlow a_inNode a_ring a_variable a_marked a_holding a_ables a_known a_stored a_journal : Nat → Int32} (W : nt_D N) (R : xx_R N D c j (f_dNodes, f_dFlows, f_nodes, f_flows, f_clock, f_acts, a_dKind, a_dNumber, a_dFrom, a_dTo, a_dWhen, a_kind, a_number, a_from, a_to, a_when, a_comes, a_leaves, a_reached, a_onFlow, a_inNode, a_ring, a_variable, a_marked, a_holding, a_ables, a_known, a_stored, a_journal)) (hi : i < 3) (hf : f < nt_f N) (h1 : ds_h N c i f = true → post 1) (h0 : ds_h N c i f = false → post 0) : wpX_holds post (f_dNodes, f_dFlows, f_nodes, f_flows, f_clock, f_acts, a_dKind, a_dNumber, a_dFrom, a_dTo, a_dWhen, a_kind, a_number, a_from, a_to, a_when, a_comes, a_leaves, a_reached, a_onFlow, a_inNode, a_ring, a_variable, a_marked, a_holding, a_ables, a_known, a_stored, a_journal) (nI i) (nI f) := by
  obtain ⟨RD, RN, RS, RM, RJ⟩ := R
  have W20 := W.2.1
  have vf : vp_in (nI f) 20 := vp_in_nI (by omega) (by omega)
  have kf : (nI f).toNatClampNeg = f := nI_clamp (by omega)
  have ew : a_when (nI f).toNatClampNeg = nt_wh N f := by rw [kf]; exact RN.1.2.2.2.2.2.2 f hf
  refine And.intro vf ?_
  rw [ew]
  rcases ix_wh (W.2.2.2.2 f hf) with ⟨a, b⟩ | ⟨q, hq, a, b, d, e⟩
  · exact br_f b (h1 (by unfold ds_h; rw [if_pos a]))
  · have hh : ds_h N c i f = ds_hq q (ds_va c (3 * i + q % 3)) := by unfold ds_h; rw [if_neg d, e]
    have d3 : (nI q / 3 : Int32) = nI (q / 3) := pk_div (d := 3) (by omega) (by omega) (by omega)
    have r3 : (nI q - nI q / 3 * 3 : Int32) = nI (q % 3) := pk_rem (d := 3) (by omega) (by omega) (by omega)
    have r33 : ((nI q / 3) - (nI q / 3) / 3 * 3 : Int32) = nI (q / 3 % 3) := by rw [d3]; exact pk_rem (d := 3) (by omega) (by omega) (by omega)
    have d9 : (nI q / 9 : Int32) = nI (q / 9) := pk_div (d := 9) (by omega) (by omega) (by omega)
    have ex : (3 * nI i + (nI q - nI q / 3 * 3) : Int32) = nI (3 * i + q % 3) := by rw [r3]; exact ix_m 3 i (q % 3)
    have vx : vp_in (3 * nI i + (nI q - nI q / 3 * 3)) 9 := by rw [ex]; exact vp_in_nI (by omega) (by omega)
    have kx : (3 * nI i + (nI q - nI q / 3 * 3)).toNatClampNeg = 3 * i + q % 3 := by rw [ex]; exact nI_clamp (by omega)
    refine br_t b ?_
    rw [a]
    refine And.intro vf (And.intro ix_30 (And.intro vx (nm_r (e' := ds_va c (3 * i + q % 3)) (by rw [kx]; exact RS.2.2.2.1 _ (by omega)) (And.intro vf (And.intro ix_30 (And.intro ix_30 (nm_r r33 (And.intro vf (And.intro ix_90 (nm_r d9 ?_))))))))))
    exact ix_hb hh rfl rfl hq (fun z => ⟨⟨h1 z, h1 z⟩, h1 z⟩) (fun z => ⟨⟨h0 z, h0 z⟩, h0 z⟩)
/-- the mask that X chooses: the flows whose conditions hold, or the last one -/
def ds_ch (N : NT) (c : DS) (i n e : Nat) : Prop := (ds_an N c i n ∧ ds_s1 N c i n e = true) ∨ (¬ ds_an N c i n ∧ e = nt_la N n)
theorem xl_ch8 {post : Int32 → Prop} {N D : NT} {c j : DS} {i n : Nat} {f_dNodes f_dFlows f_nodes f_flows f_clock f_acts : Int32} {a_dKind a_dNumber a_dFrom a_dTo a_dWhen a_kind a_number a_from a_to a_when a_comes a_leaves a_reached a_onFlow a_inNode a_ring a_variable a_marked a_holding a_ables a_known a_stored a_journal : Nat → Int32} (W : nt_D N) (R : xx_R N D c j (f_dNodes, f_dFlows, f_nodes, f_flows, f_clock, f_acts, a_dKind, a_dNumber, a_dFrom, a_dTo, a_dWhen, a_kind, a_number, a_from, a_to, a_when, a_comes, a_leaves, a_reached, a_onFlow, a_inNode, a_ring, a_variable, a_marked, a_holding, a_ables, a_known, a_stored, a_journal)) (hi : i < 3) (hn : n < nt_n N) (hl : ∃ f, f < nt_f N ∧ nt_fr N f = n) (h : ∀ r, bm_S r (fun e => e < nt_f N ∧ ds_ch N c i n e) → post r) :
    ∀ d f s l, f + d = nt_f N → bm_S s (fun e => e < f ∧ ds_s1 N c i n e = true) → bm_S l (fun e => e < f ∧ nt_fr N e = n ∧ ∀ e', e < e' → e' < f → nt_fr N e' ≠ n) → wX_chosen_8 post (nI i) (nI n) f_dNodes f_dFlows f_nodes f_flows f_clock f_acts a_dKind a_dNumber a_dFrom a_dTo a_dWhen a_kind a_number a_from a_to a_when a_comes a_leaves a_reached a_onFlow a_inNode a_ring a_variable a_marked a_holding a_ables a_known a_stored a_journal (d + 1) s l (nI f) := by
  have R' := R
  obtain ⟨RD, RN, RS, RM, RJ⟩ := R
  have W12 := W.1
  have W20 := W.2.1
  have vn : vp_in (nI n) 12 := vp_in_nI (by omega) (by omega)
  have kn : (nI n).toNatClampNeg = n := nI_clamp (by omega)
  have L := RN.2.1.2 n hn
  obtain ⟨la1, la2, la3⟩ := nt_laE hl
  have X : ∀ f s l, f ≤ nt_f N → (∀ e, f ≤ e → e < nt_f N → nt_fr N e ≠ n) → bm_S s (fun e => e < f ∧ ds_s1 N c i n e = true) → bm_S l (fun e => e < f ∧ nt_fr N e = n ∧ ∀ e', e < e' → e' < f → nt_fr N e' ≠ n) → ((s = 0 → post l) ∧ (¬ s = 0 → post s)) := by
    intro f s l hf he hs hL
    refine br_c (fun z => h l (bm_imp hL (fun e _ => ?_))) (fun z => h s (bm_imp hs (fun e _ => ?_)))
    · have na : ¬ ds_an N c i n := by
        rintro ⟨e, h1, h2⟩
        by_cases q : e < f
        · exact (bm_eq0 hs).mp z e (by omega) ⟨q, h2⟩
        · exact he e (by omega) h1 (ds_s1i.mp h2).1
      constructor
      · rintro ⟨a, b, d⟩
        refine ⟨by omega, Or.inr ⟨na, ?_⟩⟩
        rcases Nat.lt_trichotomy e (nt_la N n) with q | q | q
        · by_cases r : nt_la N n < f
          · exact absurd la2 (d _ q r)
          · exact absurd la2 (he _ (by omega) la1)
        · exact q
        · exact absurd b (la3 e q (by omega))
      · rintro ⟨a, b⟩
        rcases b with b | b
        · exact absurd b.1 na
        · rw [b.2]
          have r : nt_la N n < f := by
            rcases Nat.lt_or_ge (nt_la N n) f with r | r
            · exact r
            · exact absurd la2 (he _ r la1)
          exact ⟨r, la2, fun e' h1 h2 => la3 e' h1 (by omega)⟩
    · obtain ⟨e0, h0, h1, h2⟩ := (bm_ne0 hs).mp z
      have an : ds_an N c i n := ⟨e0, by omega, h2⟩
      constructor
      · rintro ⟨a, b⟩
        exact ⟨by omega, Or.inl ⟨an, b⟩⟩
      · rintro ⟨a, b⟩
        rcases b with b | b
        · refine ⟨?_, b.2⟩
          rcases Nat.lt_or_ge e f with r | r
          · exact r
          · exact absurd (ds_s1i.mp b.2).1 (he e r a)
        · exact absurd an b.1
  intro d
  induction d with
  | zero =>
    intro f s l hf hs hL
    rw [wX_chosen_8]
    refine And.intro vn ?_
    rw [kn]
    exact br_t ((bm_shr L (by omega)).mpr (fun e h1 h2 h3 => by omega)) (X f s l (by omega) (fun e h1 h2 => by omega) hs hL)
  | succ d ih =>
    intro f s l hf hs hL
    rw [wX_chosen_8]
    refine And.intro vn ?_
    rw [kn]
    refine br_c (fun z => X f s l (by omega) (fun e h1 h2 h3 => (bm_shr L (by omega)).mp z e h1 (by omega) ⟨h2, h3⟩) hs hL) (fun z => And.intro vn (br_c (fun b => ?_) (fun b => ?_)))
    · have nf : nt_fr N f ≠ n := fun w => (bm_bit0 L (by omega)).mp b ⟨by omega, w⟩
      refine nm_r (nI_1 f) (ih (f + 1) s l (by omega) (bm_imp hs (fun e _ => ?_)) (bm_imp hL (fun e _ => ?_)))
      · exact ⟨fun a => ⟨by omega, a.2⟩, fun a => ⟨by
          rcases Nat.lt_or_ge e f with r | r
          · exact r
          · have : e = f := by omega
            subst this
            exact absurd (ds_s1i.mp a.2).1 nf, a.2⟩⟩
      · constructor
        · rintro ⟨a1, a2, a3⟩
          refine ⟨by omega, a2, fun e' h1 h2 => ?_⟩
          by_cases r : e' = f
          · subst r; exact nf
          · exact a3 e' h1 (by omega)
        · rintro ⟨a1, a2, a3⟩
          refine ⟨?_, a2, fun e' h1 h2 => a3 e' h1 (by omega)⟩
          rcases Nat.lt_or_ge e f with r | r
          · exact r
          · have : e = f := by omega
            subst this
            exact absurd a2 nf
    · have pf : nt_fr N f = n := (Classical.byContradiction (fun w => b ((bm_bit0 L (by omega)).mpr (fun q => w q.2))))
      have hL' : bm_S ((1 : Int32) <<< (nI f &&& 31)) (fun e => e < f + 1 ∧ nt_fr N e = n ∧ ∀ e', e < e' → e' < f + 1 → nt_fr N e' ≠ n) := by
        refine bm_imp (bm_sing (by omega)) (fun e _ => ?_)
        constructor
        · rintro rfl
          exact ⟨by omega, pf, fun e' h1 h2 => by omega⟩
        · rintro ⟨a1, a2, a3⟩
          rcases Nat.lt_or_ge e f with r | r
          · exact absurd pf (a3 f r (by omega))
          · omega
      refine xl_holds W R' hi (by omega) (fun q => br_f ix_10 (nm_e (nm_e (nm_r (nI_1 f) (ih (f + 1) _ _ (by omega) (bm_imp (bm_or1 hs (by omega)) (fun e _ => ?_)) hL'))))) (fun q => br_t rfl (nm_e (nm_r (nI_1 f) (ih (f + 1) s _ (by omega) (bm_imp hs (fun e _ => ?_)) hL'))))
      · constructor
        · rintro (a | a)
          · exact ⟨by omega, a.2⟩
          · subst a; exact ⟨by omega, ds_s1i.mpr ⟨pf, q⟩⟩
        · rintro ⟨a1, a2⟩
          by_cases r : e = f
          · exact Or.inr r
          · exact Or.inl ⟨by omega, a2⟩
      · constructor
        · rintro ⟨a1, a2⟩; exact ⟨by omega, a2⟩
        · rintro ⟨a1, a2⟩
          refine ⟨?_, a2⟩
          rcases Nat.lt_or_ge e f with r | r
          · exact r
          · have : e = f := by omega
            subst this
            rw [(ds_s1i.mp a2).2] at q
            exact Bool.noConfusion q
theorem xl_chosen {post : Int32 → Prop} {N D : NT} {c j : DS} {i n : Nat} {f_dNodes f_dFlows f_nodes f_flows f_clock f_acts : Int32} {a_dKind a_dNumber a_dFrom a_dTo a_dWhen a_kind a_number a_from a_to a_when a_comes a_leaves a_reached a_onFlow a_inNode a_ring a_variable a_marked a_holding a_ables a_known a_stored a_journal : Nat → Int32} (W : nt_D N) (R : xx_R N D c j (f_dNodes, f_dFlows, f_nodes, f_flows, f_clock, f_acts, a_dKind, a_dNumber, a_dFrom, a_dTo, a_dWhen, a_kind, a_number, a_from, a_to, a_when, a_comes, a_leaves, a_reached, a_onFlow, a_inNode, a_ring, a_variable, a_marked, a_holding, a_ables, a_known, a_stored, a_journal)) (hi : i < 3) (hn : n < nt_n N) (hl : ∃ f, f < nt_f N ∧ nt_fr N f = n) (h : ∀ r, bm_S r (fun e => e < nt_f N ∧ ds_ch N c i n e) → post r) : wpX_chosen post (f_dNodes, f_dFlows, f_nodes, f_flows, f_clock, f_acts, a_dKind, a_dNumber, a_dFrom, a_dTo, a_dWhen, a_kind, a_number, a_from, a_to, a_when, a_comes, a_leaves, a_reached, a_onFlow, a_inNode, a_ring, a_variable, a_marked, a_holding, a_ables, a_known, a_stored, a_journal) (nI i) (nI n) :=
  ⟨nt_f N + 1, xl_ch8 W R hi hn hl h (nt_f N) 0 0 0 (by omega) (bm_0 (fun f _ z => by omega)) (bm_0 (fun f _ z => by omega))⟩
theorem xl_pa2 {post : SX → Prop} {N D : NT} {c j : DS} {i : Nat} {S : Nat → Bool} {x : Int32} (W : nt_D N) (hi : i < 3) (hx : bm_S x (fun e => e < nt_f N ∧ S e = true)) (h : ∀ u', xx_R N D (dc_sp c i S (nt_f N)) j u' → post u') :
    ∀ d f {f_dNodes f_dFlows f_nodes f_flows f_clock f_acts : Int32} {a_dKind a_dNumber a_dFrom a_dTo a_dWhen a_kind a_number a_from a_to a_when a_comes a_leaves a_reached a_onFlow a_inNode a_ring a_variable a_marked a_holding a_ables a_known a_stored a_journal : Nat → Int32}, f + d = nt_f N → xx_R N D (dc_sp c i S f) j (f_dNodes, f_dFlows, f_nodes, f_flows, f_clock, f_acts, a_dKind, a_dNumber, a_dFrom, a_dTo, a_dWhen, a_kind, a_number, a_from, a_to, a_when, a_comes, a_leaves, a_reached, a_onFlow, a_inNode, a_ring, a_variable, a_marked, a_holding, a_ables, a_known, a_stored, a_journal) → wX_putAll_2 post (nI i) x (d + 1) (nI f) f_dNodes f_dFlows f_nodes f_flows f_clock f_acts a_dKind a_dNumber a_dFrom a_dTo a_dWhen a_kind a_number a_from a_to a_when a_comes a_leaves a_reached a_onFlow a_inNode a_ring a_variable a_marked a_holding a_ables a_known a_stored a_journal := by
  have W20 := W.2.1
  have X : ∀ f {f_dNodes f_dFlows f_nodes f_flows f_clock f_acts : Int32} {a_dKind a_dNumber a_dFrom a_dTo a_dWhen a_kind a_number a_from a_to a_when a_comes a_leaves a_reached a_onFlow a_inNode a_ring a_variable a_marked a_holding a_ables a_known a_stored a_journal : Nat → Int32}, f ≤ nt_f N → (∀ e, f ≤ e → e < nt_f N → ¬ S e = true) → xx_R N D (dc_sp c i S f) j (f_dNodes, f_dFlows, f_nodes, f_flows, f_clock, f_acts, a_dKind, a_dNumber, a_dFrom, a_dTo, a_dWhen, a_kind, a_number, a_from, a_to, a_when, a_comes, a_leaves, a_reached, a_onFlow, a_inNode, a_ring, a_variable, a_marked, a_holding, a_ables, a_known, a_stored, a_journal) → post (f_dNodes, f_dFlows, f_nodes, f_flows, f_clock, f_acts, a_dKind, a_dNumber, a_dFrom, a_dTo, a_dWhen, a_kind, a_number, a_from, a_to, a_when, a_comes, a_leaves, a_reached, a_onFlow, a_inNode, a_ring, a_variable, a_marked, a_holding, a_ables, a_known, a_stored, a_journal) := by
    intro f f_dNodes f_dFlows f_nodes f_flows f_clock f_acts a_dKind a_dNumber a_dFrom a_dTo a_dWhen a_kind a_number a_from a_to a_when a_comes a_leaves a_reached a_onFlow a_inNode a_ring a_variable a_marked a_holding a_ables a_known a_stored a_journal hf he R
    refine h _ ?_
    have := dc_spE (c := c) (i := i) (f := f) (S := S) (nt_f N - f) (fun e h1 h2 => he e h1 (by omega))
    rw [show f + (nt_f N - f) = nt_f N from by omega] at this
    rw [this]
    exact R
  intro d
  induction d with
  | zero =>
    intro f f_dNodes f_dFlows f_nodes f_flows f_clock f_acts a_dKind a_dNumber a_dFrom a_dTo a_dWhen a_kind a_number a_from a_to a_when a_comes a_leaves a_reached a_onFlow a_inNode a_ring a_variable a_marked a_holding a_ables a_known a_stored a_journal hf R
    rw [wX_putAll_2]
    exact br_t ((bm_shr hx (by omega)).mpr (fun e h1 h2 h3 => by omega)) (X f (by omega) (fun e h1 h2 => by omega) R)
  | succ d ih =>
    intro f f_dNodes f_dFlows f_nodes f_flows f_clock f_acts a_dKind a_dNumber a_dFrom a_dTo a_dWhen a_kind a_number a_from a_to a_when a_comes a_leaves a_reached a_onFlow a_inNode a_ring a_variable a_marked a_holding a_ables a_known a_stored a_journal hf R
    rw [wX_putAll_2]
    refine br_c (fun z => X f (by omega) (fun e h1 h2 h3 => (bm_shr hx (by omega)).mp z e h1 (by omega) ⟨h2, h3⟩) R) (fun z => br_c (fun b => ?_) (fun b => ?_))
    · have q := (bm_bit1 hx (by omega)).mp b
      refine xl_put W (xx_Rw hi R) hi (by omega) (xx_all (fun f_dNodes f_dFlows f_nodes f_flows f_clock f_acts a_dKind a_dNumber a_dFrom a_dTo a_dWhen a_kind a_number a_from a_to a_when a_comes a_leaves a_reached a_onFlow a_inNode a_ring a_variable a_marked a_holding a_ables a_known a_stored a_journal R' => nm_r (nI_1 f) (ih (f + 1) (by omega) ?_)))
      rw [dc_spT q.2]
      exact R'
    · have q : ¬ S f = true := fun w => b ((bm_bit1 hx (by omega)).mpr ⟨by omega, w⟩)
      refine nm_r (nI_1 f) (ih (f + 1) (by omega) ?_)
      rw [dc_spF q]
      exact R
theorem xl_putAll {post : SX → Prop} {N D : NT} {c j : DS} {i : Nat} {S : Nat → Bool} {x : Int32} {f_dNodes f_dFlows f_nodes f_flows f_clock f_acts : Int32} {a_dKind a_dNumber a_dFrom a_dTo a_dWhen a_kind a_number a_from a_to a_when a_comes a_leaves a_reached a_onFlow a_inNode a_ring a_variable a_marked a_holding a_ables a_known a_stored a_journal : Nat → Int32} (W : nt_D N) (R : xx_R N D c j (f_dNodes, f_dFlows, f_nodes, f_flows, f_clock, f_acts, a_dKind, a_dNumber, a_dFrom, a_dTo, a_dWhen, a_kind, a_number, a_from, a_to, a_when, a_comes, a_leaves, a_reached, a_onFlow, a_inNode, a_ring, a_variable, a_marked, a_holding, a_ables, a_known, a_stored, a_journal)) (hi : i < 3) (hx : bm_S x (fun e => e < nt_f N ∧ S e = true)) (h : ∀ u', xx_R N D (dc_sp c i S (nt_f N)) j u' → post u') : wpX_putAll post (f_dNodes, f_dFlows, f_nodes, f_flows, f_clock, f_acts, a_dKind, a_dNumber, a_dFrom, a_dTo, a_dWhen, a_kind, a_number, a_from, a_to, a_when, a_comes, a_leaves, a_reached, a_onFlow, a_inNode, a_ring, a_variable, a_marked, a_holding, a_ables, a_known, a_stored, a_journal) (nI i) x :=
  ⟨nt_f N + 1, xl_pa2 W hi hx h (nt_f N) 0 (by omega) R⟩
end
section
/-! X: empty, send, receive -/
def zr_Z (a : Nat → Int32) (lo x : Nat) : Nat → Int32 := fun k => if lo ≤ k ∧ k < lo + x then 0 else a k
theorem zr_0 {a : Nat → Int32} {lo : Nat} : zr_Z a lo 0 = a := by
  funext k
  exact if_neg (by omega)
theorem zr_s {a : Nat → Int32} {lo x : Nat} : upd (zr_Z a lo x) (lo + x) 0 = zr_Z a lo (x + 1) := by
  funext k
  unfold zr_Z
  by_cases e : k = lo + x
  · subst e
    rw [pk_us, if_pos (by omega)]
  · rw [pk_un e]
    by_cases q : lo ≤ k ∧ k < lo + x
    · rw [if_pos q, if_pos (by omega)]
    · rw [if_neg q, if_neg (by omega)]
theorem xl_e57 {post : SX → Prop} {i : Nat} {f_dNodes f_dFlows f_nodes f_flows f_clock f_acts : Int32} {a_dKind a_dNumber a_dFrom a_dTo a_dWhen a_kind a_number a_from a_to a_when a_comes a_leaves a_reached a_onFlow a_inNode a_ring a_variable a_marked a_holding a_ables a_known a_stored a_journal : Nat → Int32} (hi : i < 3) (h : post (f_dNodes, f_dFlows, f_nodes, f_flows, f_clock, f_acts, a_dKind, a_dNumber, a_dFrom, a_dTo, a_dWhen, a_kind, a_number, a_from, a_to, a_when, a_comes, a_leaves, a_reached, a_onFlow, a_inNode, zr_Z a_ring (120 * i) 120, a_variable, upd a_marked i 0, upd a_holding i 0, a_ables, upd a_known i 0, a_stored, a_journal)) :
    ∀ d x a, x + d = 120 → a = zr_Z a_ring (120 * i) x → wX_empty_57 post (nI i) f_dNodes f_dFlows f_nodes f_flows f_clock f_acts (d + 1) (nI (120 * i + x)) a_dKind a_dNumber a_dFrom a_dTo a_dWhen a_kind a_number a_from a_to a_when a_comes a_leaves a_reached a_onFlow a_inNode a a_variable a_marked a_holding a_ables a_known a_stored a_journal := by
  have vi : vp_in (nI i) 3 := vp_in_nI hi (by omega)
  have ki : (nI i).toNatClampNeg = i := nI_clamp (by omega)
  have e : (120 * nI i + 120 : Int32) = nI (120 * i + 120) := ix_m 120 i 120
  intro d
  induction d with
  | zero =>
    intro x a hx ea
    have : x = 120 := by omega
    subst this
    subst ea
    rw [wX_empty_57, e]
    exact br_t (nI_le (Nat.le_refl _) (by omega)) (And.intro vi (nm_r (by rw [ki]) (And.intro vi (nm_r (by rw [ki]) (And.intro vi (nm_r (by rw [ki, ix_nb0]) h))))))
  | succ d ih =>
    intro x a hx ea
    subst ea
    rw [wX_empty_57, e]
    refine br_f (nI_ge (by omega) (by omega)) (And.intro (vp_in_nI (by omega) (by omega)) (nm_r (e' := zr_Z a_ring (120 * i) (x + 1)) (by rw [nI_clamp (by omega)]; exact zr_s) (nm_r (e' := nI (120 * i + (x + 1))) (nI_1 _) (ih (x + 1) _ (by omega) rfl))))
theorem xl_e28 {post : SX → Prop} {i : Nat} {f_dNodes f_dFlows f_nodes f_flows f_clock f_acts : Int32} {a_dKind a_dNumber a_dFrom a_dTo a_dWhen a_kind a_number a_from a_to a_when a_comes a_leaves a_reached a_onFlow a_inNode a_ring a_variable a_marked a_holding a_ables a_known a_stored a_journal : Nat → Int32} (hi : i < 3) (h : post (f_dNodes, f_dFlows, f_nodes, f_flows, f_clock, f_acts, a_dKind, a_dNumber, a_dFrom, a_dTo, a_dWhen, a_kind, a_number, a_from, a_to, a_when, a_comes, a_leaves, a_reached, a_onFlow, zr_Z a_inNode (12 * i) 12, zr_Z a_ring (120 * i) 120, a_variable, upd a_marked i 0, upd a_holding i 0, a_ables, upd a_known i 0, a_stored, a_journal)) :
    ∀ d x a, x + d = 12 → a = zr_Z a_inNode (12 * i) x → wX_empty_28 post (nI i) f_dNodes f_dFlows f_nodes f_flows f_clock f_acts (d + 1) (nI x) a_dKind a_dNumber a_dFrom a_dTo a_dWhen a_kind a_number a_from a_to a_when a_comes a_leaves a_reached a_onFlow a a_ring a_variable a_marked a_holding a_ables a_known a_stored a_journal := by
  intro d
  induction d with
  | zero =>
    intro x a hx ea
    have : x = 12 := by omega
    subst this
    subst ea
    rw [wX_empty_28]
    refine br_t (nI_le (Nat.le_refl _) (by omega)) (nm_r (e' := nI (120 * i + 0)) (pk_mul 120 i) ⟨121, xl_e57 hi h 120 0 a_ring (by omega) zr_0.symm⟩)
  | succ d ih =>
    intro x a hx ea
    subst ea
    have e : (12 * nI i + nI x : Int32) = nI (12 * i + x) := ix_m 12 i x
    rw [wX_empty_28]
    refine br_f (nI_ge (b := 12) (by omega) (by omega)) (And.intro (by rw [e]; exact vp_in_nI (by omega) (by omega)) (nm_r (e' := zr_Z a_inNode (12 * i) (x + 1)) (by rw [e, nI_clamp (by omega)]; exact zr_s) (nm_r (nI_1 _) (ih (x + 1) _ (by omega) rfl))))
theorem xl_e2 {post : SX → Prop} {i : Nat} {f_dNodes f_dFlows f_nodes f_flows f_clock f_acts : Int32} {a_dKind a_dNumber a_dFrom a_dTo a_dWhen a_kind a_number a_from a_to a_when a_comes a_leaves a_reached a_onFlow a_inNode a_ring a_variable a_marked a_holding a_ables a_known a_stored a_journal : Nat → Int32} (hi : i < 3) (h : post (f_dNodes, f_dFlows, f_nodes, f_flows, f_clock, f_acts, a_dKind, a_dNumber, a_dFrom, a_dTo, a_dWhen, a_kind, a_number, a_from, a_to, a_when, a_comes, a_leaves, a_reached, zr_Z a_onFlow (20 * i) 20, zr_Z a_inNode (12 * i) 12, zr_Z a_ring (120 * i) 120, a_variable, upd a_marked i 0, upd a_holding i 0, a_ables, upd a_known i 0, a_stored, a_journal)) :
    ∀ d x a, x + d = 20 → a = zr_Z a_onFlow (20 * i) x → wX_empty_2 post (nI i) f_dNodes f_dFlows f_nodes f_flows f_clock f_acts (d + 1) (nI x) a_dKind a_dNumber a_dFrom a_dTo a_dWhen a_kind a_number a_from a_to a_when a_comes a_leaves a_reached a a_inNode a_ring a_variable a_marked a_holding a_ables a_known a_stored a_journal := by
  intro d
  induction d with
  | zero =>
    intro x a hx ea
    have : x = 20 := by omega
    subst this
    subst ea
    rw [wX_empty_2]
    exact br_t (nI_le (Nat.le_refl _) (by omega)) ⟨13, xl_e28 hi h 12 0 a_inNode (by omega) zr_0.symm⟩
  | succ d ih =>
    intro x a hx ea
    subst ea
    have e : (20 * nI i + nI x : Int32) = nI (20 * i + x) := ix_m 20 i x
    rw [wX_empty_2]
    refine br_f (nI_ge (b := 20) (by omega) (by omega)) (And.intro (by rw [e]; exact vp_in_nI (by omega) (by omega)) (nm_r (e' := zr_Z a_onFlow (20 * i) (x + 1)) (by rw [e, nI_clamp (by omega)]; exact zr_s) (nm_r (nI_1 _) (ih (x + 1) _ (by omega) rfl))))
theorem xl_empty {post : SX → Prop} {N D : NT} {c j : DS} {i : Nat} {f_dNodes f_dFlows f_nodes f_flows f_clock f_acts : Int32} {a_dKind a_dNumber a_dFrom a_dTo a_dWhen a_kind a_number a_from a_to a_when a_comes a_leaves a_reached a_onFlow a_inNode a_ring a_variable a_marked a_holding a_ables a_known a_stored a_journal : Nat → Int32} (W : nt_D N) (R : xx_Ri N D c j i (f_dNodes, f_dFlows, f_nodes, f_flows, f_clock, f_acts, a_dKind, a_dNumber, a_dFrom, a_dTo, a_dWhen, a_kind, a_number, a_from, a_to, a_when, a_comes, a_leaves, a_reached, a_onFlow, a_inNode, a_ring, a_variable, a_marked, a_holding, a_ables, a_known, a_stored, a_journal)) (hi : i < 3) (h : ∀ u', xx_R N D (dc_emp c i) j u' → post u') : wpX_empty post (f_dNodes, f_dFlows, f_nodes, f_flows, f_clock, f_acts, a_dKind, a_dNumber, a_dFrom, a_dTo, a_dWhen, a_kind, a_number, a_from, a_to, a_when, a_comes, a_leaves, a_reached, a_onFlow, a_inNode, a_ring, a_variable, a_marked, a_holding, a_ables, a_known, a_stored, a_journal) (nI i) := by
  obtain ⟨RD, RN, RS, RM, RJ⟩ := R
  refine ⟨21, xl_e2 hi (h _ ⟨RD, RN, ⟨?_, ?_, ?_, RS.2.2.2⟩, ?_, RJ⟩) 20 0 a_onFlow (by omega) zr_0.symm⟩
  · intro k hk
    show (if 20 * i ≤ k ∧ k < 20 * i + 20 then 0 else a_onFlow k) = nI (if 20 * i ≤ k ∧ k < 20 * i + 20 then 0 else ds_on c k)
    by_cases q : 20 * i ≤ k ∧ k < 20 * i + 20
    · rw [if_pos q, if_pos q]; rfl
    · rw [if_neg q, if_neg q]; exact RS.1 k hk
  · intro k hk
    show (if 12 * i ≤ k ∧ k < 12 * i + 12 then 0 else a_inNode k) = nI (if 12 * i ≤ k ∧ k < 12 * i + 12 then 0 else ds_in c k)
    by_cases q : 12 * i ≤ k ∧ k < 12 * i + 12
    · rw [if_pos q, if_pos q]; rfl
    · rw [if_neg q, if_neg q]; exact RS.2.1 k hk
  · intro k t hk ht
    show (if 120 * i ≤ 10 * k + (ds_ck c + t) % 10 ∧ 10 * k + (ds_ck c + t) % 10 < 120 * i + 120 then 0 else a_ring (10 * k + (ds_ck c + t) % 10)) = nI (if 120 * i ≤ 10 * k + t ∧ 10 * k + t < 120 * i + 120 then 0 else ds_tm c (10 * k + t))
    by_cases q : 120 * i ≤ 10 * k + t ∧ 10 * k + t < 120 * i + 120
    · rw [if_pos (by omega), if_pos q]; rfl
    · rw [if_neg (by omega), if_neg q]; exact RS.2.2.1 k t hk ht
  · refine xx_M0 (xx_Mc W RM (fun i' f h1 h2 h3 => ?_) (fun i' n h1 h2 h3 => ?_) (bm_0 (fun f _ z => ?_)) (bm_0 (fun f _ z => ?_)))
    · exact if_neg (by omega)
    · exact if_neg (by omega)
    · have e : ds_on (dc_emp c i) (20 * i + f) = 0 := if_pos (by omega)
      have := z.2
      unfold ds_P at this
      omega
    · have e : ds_in (dc_emp c i) (12 * i + f) = 0 := if_pos (by omega)
      have := z.2
      unfold ds_Q at this
      omega
/-! messages -/
def ds_sd (N : NT) (c : DS) (m k : Nat) : Bool := decide (k % 12 < nt_n N ∧ nt_ki N (k % 12) = 9 ∧ nt_nu N (k % 12) = m ∧ 0 < ds_in c k)
theorem ds_sdi {N : NT} {c : DS} {m i n : Nat} (hn : n < 12) : ds_sd N c m (12 * i + n) = true ↔ (n < nt_n N ∧ nt_ki N n = 9 ∧ nt_nu N n = m ∧ 0 < ds_in c (12 * i + n)) := by
  unfold ds_sd
  rw [decide_eq_true_iff, show (12 * i + n) % 12 = n from by omega]
def dc_send (N : NT) (c : DS) (m : Nat) : DS :=
  if sr_L (ds_sd N c m) 36 < 36 then dc_gon N c (sr_L (ds_sd N c m) 36 / 12) (sr_L (ds_sd N c m) 36 % 12) else if ds_st c m < 9 then dc_st c (un_U (ds_st c) m (ds_st c m + 1)) else c
theorem dc_send1 {N : NT} {c : DS} {m i n : Nat} (hi : i < 3) (hn : n < 12) (h : ds_sd N c m (12 * i + n) = true) (hl : ∀ k, k < 12 * i + n → ds_sd N c m k = false) : dc_send N c m = dc_gon N c i n := by
  have e : sr_L (ds_sd N c m) 36 = 12 * i + n := sr_is (by omega) h hl
  unfold dc_send
  rw [e, if_pos (by omega), show (12 * i + n) / 12 = i from by omega, show (12 * i + n) % 12 = n from by omega]
theorem dc_send0 {N : NT} {c : DS} {m : Nat} (hl : ∀ k, k < 36 → ds_sd N c m k = false) : dc_send N c m = if ds_st c m < 9 then dc_st c (un_U (ds_st c) m (ds_st c m + 1)) else c := by
  unfold dc_send
  rw [if_neg]
  intro h
  have a := sr_hit (ds_sd N c m) 36 0 (by unfold sr_L at h; omega)
  have b := hl _ h
  unfold sr_L at b
  rw [a] at b
  exact Bool.noConfusion b
theorem ix_b10 : ∀ n, n < 11 → vp_nar .byte ((nI n).toInt8.toInt32) = nI n := by
  intro n hn
  rw [pk_vb]
  exact (by decide +kernel : ∀ n, n < 11 → (nI n).toInt8.toInt32 = nI n) n hn
theorem xl_s9 {post : SX → Prop} {J : Int32 → Prop} {N D : NT} {B : Nat} {c j : DS} {i m : Nat} {f_dNodes f_dFlows f_nodes f_flows f_clock f_acts : Int32} {a_dKind a_dNumber a_dFrom a_dTo a_dWhen a_kind a_number a_from a_to a_when a_comes a_leaves a_reached a_onFlow a_inNode a_ring a_variable a_marked a_holding a_ables a_known a_stored a_journal : Nat → Int32} (W : nt_W N) (I : ic_C N B c) (hB : B < 2 ^ 31) (R : xx_R N D c j (f_dNodes, f_dFlows, f_nodes, f_flows, f_clock, f_acts, a_dKind, a_dNumber, a_dFrom, a_dTo, a_dWhen, a_kind, a_number, a_from, a_to, a_when, a_comes, a_leaves, a_reached, a_onFlow, a_inNode, a_ring, a_variable, a_marked, a_holding, a_ables, a_known, a_stored, a_journal)) (hi : i < 3) (hm : m < 3)
    (h : ∀ u', xx_R N D (dc_send N c m) j u' → post u') (hJ : (∀ k, k < 12 * (i + 1) → ds_sd N c m k = false) → J (nI (i + 1))) :
    ∀ d n, n + d = 12 → (∀ k, k < 12 * i + n → ds_sd N c m k = false) → wX_send_9 post J (nI m) (nI i) f_dNodes f_dFlows f_nodes f_flows f_clock f_acts a_dKind a_dNumber a_dFrom a_dTo a_dWhen a_kind a_number a_from a_to a_when a_comes a_leaves a_reached a_onFlow a_inNode a_ring a_variable a_marked a_holding a_ables a_known a_stored a_journal (d + 1) (nI n) := by
  have R' := R
  obtain ⟨RD, RN, RS, RM, RJ⟩ := R
  have vi : vp_in (nI i) 3 := vp_in_nI hi (by omega)
  have ki : (nI i).toNatClampNeg = i := nI_clamp (by omega)
  have G := (RM i hi).2.1
  have X : ∀ n, n ≤ 12 → (∀ k, k < 12 * i + n → ds_sd N c m k = false) → a_holding i >>> (nI n &&& 31) = 0 → J (nI (i + 1)) := by
    intro n hn hl z
    refine hJ (fun k hk => ?_)
    by_cases q : k < 12 * i + n
    · exact hl k q
    · obtain ⟨n', rfl⟩ : ∃ n', k = 12 * i + n' := ⟨k - 12 * i, by omega⟩
      refine Bool.eq_false_iff.mpr (fun w => ?_)
      have := (ds_sdi (by omega)).mp w
      exact (bm_shr G (by omega)).mp z n' (by omega) (by omega) ⟨by omega, this.2.2.2⟩
  intro d
  induction d with
  | zero =>
    intro n hn hl
    have z : a_holding i >>> (nI n &&& 31) = 0 := (bm_shr G (by omega)).mpr (fun e h1 h2 h3 => by omega)
    rw [wX_send_9]
    refine And.intro vi ?_
    rw [ki]
    exact br_t z (nm_r (nI_1 i) (X n (by omega) hl z))
  | succ d ih =>
    intro n hn hl
    have vn : vp_in (nI n) 12 := vp_in_nI (by omega) (by omega)
    have kn : (nI n).toNatClampNeg = n := nI_clamp (by omega)
    have nx : ¬ ds_sd N c m (12 * i + n) = true → wX_send_9 post J (nI m) (nI i) f_dNodes f_dFlows f_nodes f_flows f_clock f_acts a_dKind a_dNumber a_dFrom a_dTo a_dWhen a_kind a_number a_from a_to a_when a_comes a_leaves a_reached a_onFlow a_inNode a_ring a_variable a_marked a_holding a_ables a_known a_stored a_journal (d + 1) (nI (n + 1)) := fun q => ih (n + 1) (by omega) (fun k hk => by
      by_cases e : k = 12 * i + n
      · subst e; exact Bool.eq_false_iff.mpr q
      · exact hl k (by omega))
    rw [wX_send_9]
    refine And.intro vi ?_
    rw [ki]
    refine br_c (fun z => nm_r (nI_1 i) (X n (by omega) hl z)) (fun _ => And.intro vi (br_c (fun b => ?_) (fun b => nm_r (nI_1 n) (nx (fun w => b ((bm_bit1 G (by omega)).mpr ⟨by omega, ((ds_sdi (by omega)).mp w).2.2.2⟩))))))
    have q := (bm_bit1 G (by omega)).mp b
    obtain ⟨hnn, _⟩ := ic_Q I hi (by omega) q.2
    obtain ⟨wk, wn, _, _, w9⟩ := W.1.2.2.2.1 n hnn
    have ek : a_kind (nI n).toNatClampNeg = nI (nt_ki N n) := by rw [kn]; exact RN.1.2.2.1 n hnn
    have en : a_number (nI n).toNatClampNeg = nI (nt_nu N n) := by rw [kn]; exact RN.1.2.2.2.1 n hnn
    refine And.intro vn ?_
    rw [ek]
    refine pk_eq (nt_ki N n) 9 (fun k9 => And.intro vn ?_) (fun k9 => nm_r (nI_1 n) (nx (fun w => k9 ((ds_sdi (by omega)).mp w).2.1)))
    rw [en]
    refine pk_eq (nt_nu N n) m (fun e => ?_) (fun e => nm_r (nI_1 n) (nx (fun w => e ((ds_sdi (by omega)).mp w).2.2.1)))
    have hs : dc_send N c m = dc_gon N c i n := dc_send1 hi (by omega) ((ds_sdi (by omega)).mpr ⟨hnn, k9, e, q.2⟩) hl
    rw [hs] at h
    exact xl_goOn W R' hi hnn (W.2.2.1 n hnn (by omega) (by omega)) q.2 (Nat.lt_of_le_of_lt (ic_in W I hi (by omega)) hB) (xx_all (fun f_dNodes f_dFlows f_nodes f_flows f_clock f_acts a_dKind a_dNumber a_dFrom a_dTo a_dWhen a_kind a_number a_from a_to a_when a_comes a_leaves a_reached a_onFlow a_inNode a_ring a_variable a_marked a_holding a_ables a_known a_stored a_journal R => h _ R))
theorem xl_s2 {post : SX → Prop} {N D : NT} {B : Nat} {c j : DS} {m : Nat} {f_dNodes f_dFlows f_nodes f_flows f_clock f_acts : Int32} {a_dKind a_dNumber a_dFrom a_dTo a_dWhen a_kind a_number a_from a_to a_when a_comes a_leaves a_reached a_onFlow a_inNode a_ring a_variable a_marked a_holding a_ables a_known a_stored a_journal : Nat → Int32} (W : nt_W N) (I : ic_C N B c) (hB : B < 2 ^ 31) (R : xx_R N D c j (f_dNodes, f_dFlows, f_nodes, f_flows, f_clock, f_acts, a_dKind, a_dNumber, a_dFrom, a_dTo, a_dWhen, a_kind, a_number, a_from, a_to, a_when, a_comes, a_leaves, a_reached, a_onFlow, a_inNode, a_ring, a_variable, a_marked, a_holding, a_ables, a_known, a_stored, a_journal)) (hm : m < 3)
    (h : ∀ u', xx_R N D (dc_send N c m) j u' → post u') :
    ∀ d i, i + d = 3 → (∀ k, k < 12 * i → ds_sd N c m k = false) → wX_send_2 post (nI m) f_dNodes f_dFlows f_nodes f_flows f_clock f_acts a_dKind a_dNumber a_dFrom a_dTo a_dWhen a_kind a_number a_from a_to a_when a_comes a_leaves a_reached a_onFlow a_inNode a_ring a_variable a_marked a_holding a_ables a_known a_stored a_journal (d + 1) (nI i) := by
  have R' := R
  obtain ⟨RD, RN, RS, RM, RJ⟩ := R
  have vm : vp_in (nI m) 3 := vp_in_nI hm (by omega)
  have km : (nI m).toNatClampNeg = m := nI_clamp (by omega)
  have es : a_stored (nI m).toNatClampNeg = nI (ds_st c m) := by rw [km]; exact RS.2.2.2.2.1 m hm
  have s9 : ds_st c m ≤ 9 := I.2.2.2.2.2.1 m hm
  intro d
  induction d with
  | zero =>
    intro i hi hl
    have : i = 3 := by omega
    subst this
    rw [dc_send0 hl] at h
    rw [wX_send_2]
    refine br_t (nI_le (Nat.le_refl _) (by omega)) (And.intro vm ?_)
    rw [es]
    refine pk_le 9 (ds_st c m) (fun q => h _ ?_) (fun q => And.intro vm (And.intro vm (nm_r (e' := upd a_stored m (nI (ds_st c m + 1))) ?_ (h _ ?_))))
    · rw [if_neg (by omega)]; exact R'
    · rw [km, nI_1, ix_b10 _ (by omega)]
    · rw [if_pos q]
      exact ⟨RD, RN, ⟨RS.1, RS.2.1, RS.2.2.1, RS.2.2.2.1, un_upd RS.2.2.2.2.1 rfl, RS.2.2.2.2.2⟩, RM, RJ⟩
  | succ d ih =>
    intro i hi hl
    rw [wX_send_2]
    exact br_f (nI_ge (b := 3) (by omega) (by omega)) ⟨13, xl_s9 W I hB R' (by omega) hm h (fun q => ih (i + 1) (by omega) q) 12 0 (by omega) hl⟩
theorem xl_send {post : SX → Prop} {N D : NT} {B : Nat} {c j : DS} {m : Nat} {f_dNodes f_dFlows f_nodes f_flows f_clock f_acts : Int32} {a_dKind a_dNumber a_dFrom a_dTo a_dWhen a_kind a_number a_from a_to a_when a_comes a_leaves a_reached a_onFlow a_inNode a_ring a_variable a_marked a_holding a_ables a_known a_stored a_journal : Nat → Int32} (W : nt_W N) (I : ic_C N B c) (hB : B < 2 ^ 31) (R : xx_R N D c j (f_dNodes, f_dFlows, f_nodes, f_flows, f_clock, f_acts, a_dKind, a_dNumber, a_dFrom, a_dTo, a_dWhen, a_kind, a_number, a_from, a_to, a_when, a_comes, a_leaves, a_reached, a_onFlow, a_inNode, a_ring, a_variable, a_marked, a_holding, a_ables, a_known, a_stored, a_journal)) (hm : m < 3) (h : ∀ u', xx_R N D (dc_send N c m) j u' → post u') : wpX_send post (f_dNodes, f_dFlows, f_nodes, f_flows, f_clock, f_acts, a_dKind, a_dNumber, a_dFrom, a_dTo, a_dWhen, a_kind, a_number, a_from, a_to, a_when, a_comes, a_leaves, a_reached, a_onFlow, a_inNode, a_ring, a_variable, a_marked, a_holding, a_ables, a_known, a_stored, a_journal) (nI m) :=
  ⟨4, xl_s2 W I hB R hm h 3 0 (by omega) (fun k hk => by omega)⟩
def dc_rec (N : NT) (c : DS) (i n : Nat) : DS := if ds_st c (nt_nu N n) = 0 then dc_ent c i n else dc_put (dc_st c (un_U (ds_st c) (nt_nu N n) (ds_st c (nt_nu N n) - 1))) i (nt_lv N n)
theorem xl_receive {post : SX → Prop} {N D : NT} {B : Nat} {c j : DS} {i n : Nat} {f_dNodes f_dFlows f_nodes f_flows f_clock f_acts : Int32} {a_dKind a_dNumber a_dFrom a_dTo a_dWhen a_kind a_number a_from a_to a_when a_comes a_leaves a_reached a_onFlow a_inNode a_ring a_variable a_marked a_holding a_ables a_known a_stored a_journal : Nat → Int32} (W : nt_W N) (I : ic_C N B c) (R : xx_R N D c j (f_dNodes, f_dFlows, f_nodes, f_flows, f_clock, f_acts, a_dKind, a_dNumber, a_dFrom, a_dTo, a_dWhen, a_kind, a_number, a_from, a_to, a_when, a_comes, a_leaves, a_reached, a_onFlow, a_inNode, a_ring, a_variable, a_marked, a_holding, a_ables, a_known, a_stored, a_journal)) (hi : i < 3) (hn : n < nt_n N) (hk : nt_ki N n = 9) (h : ∀ u', xx_R N D (dc_rec N c i n) j u' → post u') : wpX_receive post (f_dNodes, f_dFlows, f_nodes, f_flows, f_clock, f_acts, a_dKind, a_dNumber, a_dFrom, a_dTo, a_dWhen, a_kind, a_number, a_from, a_to, a_when, a_comes, a_leaves, a_reached, a_onFlow, a_inNode, a_ring, a_variable, a_marked, a_holding, a_ables, a_known, a_stored, a_journal) (nI i) (nI n) := by
  have R' := R
  obtain ⟨RD, RN, RS, RM, RJ⟩ := R
  have W12 := W.1.1
  have W20 := W.1.2.1
  have vn : vp_in (nI n) 12 := vp_in_nI (by omega) (by omega)
  have kn : (nI n).toNatClampNeg = n := nI_clamp (by omega)
  have hm : nt_nu N n < 3 := (W.1.2.2.2.1 n hn).2.2.2.2 hk
  have vm : vp_in (nI (nt_nu N n)) 3 := vp_in_nI hm (by omega)
  have km : (nI (nt_nu N n)).toNatClampNeg = nt_nu N n := nI_clamp (by omega)
  have es : a_stored (nI (nt_nu N n)).toNatClampNeg = nI (ds_st c (nt_nu N n)) := by rw [km]; exact RS.2.2.2.2.1 _ hm
  have s9 : ds_st c (nt_nu N n) ≤ 9 := I.2.2.2.2.2.1 _ hm
  have hl := W.2.2.1 n hn (by omega) (by omega)
  unfold dc_rec at h
  refine And.intro vn (nm_r (e' := nI (nt_nu N n)) (by rw [kn]; exact RN.1.2.2.2.1 n hn) (And.intro vm ?_))
  rw [es]
  refine pk_eq (ds_st c (nt_nu N n)) 0 (fun q => ?_) (fun q => And.intro vm (And.intro vm (nm_r (e' := upd a_stored (nt_nu N n) (nI (ds_st c (nt_nu N n) - 1))) ?_ (And.intro vn ?_))))
  · rw [if_pos q] at h
    exact xl_enter W.1 R' hi (by omega) (xx_all (fun f_dNodes f_dFlows f_nodes f_flows f_clock f_acts a_dKind a_dNumber a_dFrom a_dTo a_dWhen a_kind a_number a_from a_to a_when a_comes a_leaves a_reached a_onFlow a_inNode a_ring a_variable a_marked a_holding a_ables a_known a_stored a_journal R => h _ R))
  · rw [km, show (nI (ds_st c (nt_nu N n)) - 1 : Int32) = nI (ds_st c (nt_nu N n) - 1) from pk_sub (b := 1) (by omega), ix_b10 _ (by omega)]
  · rw [if_neg q] at h
    rw [kn]
    refine xl_lv W20 (RN.2.1.2 n hn) hl (xl_put W.1 (xx_Rw hi (c := dc_st c (un_U (ds_st c) (nt_nu N n) (ds_st c (nt_nu N n) - 1))) ⟨RD, RN, ⟨RS.1, RS.2.1, RS.2.2.1, RS.2.2.2.1, un_upd RS.2.2.2.2.1 rfl, RS.2.2.2.2.2⟩, RM, RJ⟩) hi (by have := (nt_lvE hl).1; omega) (xx_all (fun f_dNodes f_dFlows f_nodes f_flows f_clock f_acts a_dKind a_dNumber a_dFrom a_dTo a_dWhen a_kind a_number a_from a_to a_when a_comes a_leaves a_reached a_onFlow a_inNode a_ring a_variable a_marked a_holding a_ables a_known a_stored a_journal R => h _ R)))
end
section
/-! what an act does, and X's act -/
def ds_he (N : NT) (c : DS) (i n f : Nat) : Bool := decide (nt_to N f = n ∧ 0 < ds_on c (20 * i + f))
theorem ds_hei {N : NT} {c : DS} {i n f : Nat} : ds_he N c i n f = true ↔ nt_to N f = n ∧ ds_P c i f := decide_eq_true_iff
def ds_cb (N : NT) (c : DS) (i n e : Nat) : Bool := if sr_L (ds_s1 N c i n) (nt_f N) < nt_f N then ds_s1 N c i n e else decide (e = nt_la N n)
theorem ds_ani {N : NT} {c : DS} {i n : Nat} : ds_an N c i n ↔ sr_L (ds_s1 N c i n) (nt_f N) < nt_f N := by
  constructor
  · intro h; exact (sr_ex h).1
  · intro h; exact ⟨_, h, sr_hit _ _ _ (by unfold sr_L at h; omega)⟩
theorem ds_cbi {N : NT} {c : DS} {i n e : Nat} : ds_ch N c i n e ↔ ds_cb N c i n e = true := by
  unfold ds_ch ds_cb
  by_cases q : sr_L (ds_s1 N c i n) (nt_f N) < nt_f N
  · rw [if_pos q]
    have a := ds_ani.mpr q
    exact ⟨fun h => (h.resolve_right (fun z => z.1 a)).2, fun h => Or.inl ⟨a, h⟩⟩
  · rw [if_neg q, decide_eq_true_iff]
    have a : ¬ ds_an N c i n := fun z => q (ds_ani.mp z)
    exact ⟨fun h => (h.resolve_left (fun z => a z.1)).2, fun h => Or.inr ⟨a, h⟩⟩
def dc_tmr (c : DS) (i n x : Nat) : DS := dc_tm c (un_U (ds_tm c) (10 * (12 * i + n) + x) (ds_tm c (10 * (12 * i + n) + x) + 1))
def dc_set (c : DS) (i x : Nat) : DS := dc_va c (upd (ds_va c) (3 * i + x % 3) (ds_va c (3 * i + x % 3) + (nI (x / 3) - 4)))
def dc_act1 (N : NT) (c : DS) (i n : Nat) : DS :=
  if nt_ki N n = 2 then dc_ent c i n else if nt_ki N n = 3 then dc_put c i (sr_L (ds_cb N c i n) (nt_f N)) else if nt_ki N n = 6 then dc_tmr (dc_ent c i n) i n (nt_nu N n) else
  if nt_ki N n = 7 then dc_put (dc_set c i (nt_nu N n)) i (nt_lv N n) else if nt_ki N n = 8 then dc_put (dc_send N c (nt_nu N n)) i (nt_lv N n) else if nt_ki N n = 9 then dc_rec N c i n else
  if nt_ki N n = 10 then dc_emp c i else c
def dc_act (N : NT) (c : DS) (i n : Nat) : DS :=
  if nt_ki N n = 4 then dc_sp (dc_tk c i (ds_he N c i n) (nt_f N)) i (fun e => decide (nt_fr N e = n)) (nt_f N) else
  if nt_ki N n = 5 then dc_sp (dc_tk c i (ds_he N c i n) (nt_f N)) i (ds_cb N (dc_tk c i (ds_he N c i n) (nt_f N)) i n) (nt_f N) else
  dc_act1 N (dc_take c i (sr_L (ds_he N c i n) (nt_f N))) i n
theorem dc_a1 {N : NT} {c : DS} {i n : Nat} (h : nt_ki N n = 1) : dc_act1 N c i n = c := by unfold dc_act1; rw [h]; rfl
theorem dc_a2 {N : NT} {c : DS} {i n : Nat} (h : nt_ki N n = 2) : dc_act1 N c i n = dc_ent c i n := by unfold dc_act1; rw [h]; rfl
theorem dc_a3 {N : NT} {c : DS} {i n : Nat} (h : nt_ki N n = 3) : dc_act1 N c i n = dc_put c i (sr_L (ds_cb N c i n) (nt_f N)) := by unfold dc_act1; rw [h]; rfl
theorem dc_a6 {N : NT} {c : DS} {i n : Nat} (h : nt_ki N n = 6) : dc_act1 N c i n = dc_tmr (dc_ent c i n) i n (nt_nu N n) := by unfold dc_act1; rw [h]; rfl
theorem dc_a7 {N : NT} {c : DS} {i n : Nat} (h : nt_ki N n = 7) : dc_act1 N c i n = dc_put (dc_set c i (nt_nu N n)) i (nt_lv N n) := by unfold dc_act1; rw [h]; rfl
theorem dc_a8 {N : NT} {c : DS} {i n : Nat} (h : nt_ki N n = 8) : dc_act1 N c i n = dc_put (dc_send N c (nt_nu N n)) i (nt_lv N n) := by unfold dc_act1; rw [h]; rfl
theorem dc_a9 {N : NT} {c : DS} {i n : Nat} (h : nt_ki N n = 9) : dc_act1 N c i n = dc_rec N c i n := by unfold dc_act1; rw [h]; rfl
theorem dc_a10 {N : NT} {c : DS} {i n : Nat} (h : nt_ki N n = 10) : dc_act1 N c i n = dc_emp c i := by unfold dc_act1; rw [h]; rfl
theorem dc_b4 {N : NT} {c : DS} {i n : Nat} (h : nt_ki N n = 4) : dc_act N c i n = dc_sp (dc_tk c i (ds_he N c i n) (nt_f N)) i (fun e => decide (nt_fr N e = n)) (nt_f N) := by unfold dc_act; rw [h]; rfl
theorem dc_b5 {N : NT} {c : DS} {i n : Nat} (h : nt_ki N n = 5) : dc_act N c i n = dc_sp (dc_tk c i (ds_he N c i n) (nt_f N)) i (ds_cb N (dc_tk c i (ds_he N c i n) (nt_f N)) i n) (nt_f N) := by unfold dc_act; rw [h]; rfl
theorem dc_b0 {N : NT} {c : DS} {i n : Nat} (h4 : nt_ki N n ≠ 4) (h5 : nt_ki N n ≠ 5) : dc_act N c i n = dc_act1 N (dc_take c i (sr_L (ds_he N c i n) (nt_f N))) i n := by unfold dc_act; rw [if_neg h4, if_neg h5]
theorem ic_take {N : NT} {B : Nat} {c : DS} {i f : Nat} (I : ic_C N B c) : ic_C N B (dc_take c i f) := by
  have h : ∀ k, ds_on (dc_take c i f) k ≤ ds_on c k := fun k => by
    show un_U (ds_on c) (20 * i + f) (ds_on c (20 * i + f) - 1) k ≤ _
    by_cases e : k = 20 * i + f
    · subst e; rw [un_s]; omega
    · rw [un_n e]; exact Nat.le_refl _
  exact ⟨fun i f a b d => by have := h (20 * i + f); have := I.1 i f a b d; omega, fun i f a b => Nat.le_trans (Nat.add_le_add_right (h _) _) (I.2.1 i f a b), I.2.2⟩
theorem xl_a98 {post : SX → Prop} {N D : NT} {c j : DS} {i : Nat} {S : Nat → Bool} {x : Int32} {f_dNodes f_dFlows f_nodes f_flows f_clock f_acts : Int32} {a_dKind a_dNumber a_dFrom a_dTo a_dWhen a_kind a_number a_from a_to a_when a_comes a_leaves a_reached a_onFlow a_inNode a_ring a_variable a_marked a_holding a_ables a_known a_stored a_journal : Nat → Int32} (W : nt_D N) (R : xx_R N D c j (f_dNodes, f_dFlows, f_nodes, f_flows, f_clock, f_acts, a_dKind, a_dNumber, a_dFrom, a_dTo, a_dWhen, a_kind, a_number, a_from, a_to, a_when, a_comes, a_leaves, a_reached, a_onFlow, a_inNode, a_ring, a_variable, a_marked, a_holding, a_ables, a_known, a_stored, a_journal)) (hi : i < 3) (hx : bm_S x (fun e => e < nt_f N ∧ S e = true)) (h : ∀ u', xx_R N D (dc_sp c i S (nt_f N)) j u' → post u') : wX_act_98 post (nI i) x f_dNodes f_dFlows f_nodes f_flows f_clock f_acts a_dKind a_dNumber a_dFrom a_dTo a_dWhen a_kind a_number a_from a_to a_when a_comes a_leaves a_reached a_onFlow a_inNode a_ring a_variable a_marked a_holding a_ables a_known a_stored a_journal :=
  xl_putAll W R hi hx (xx_all (fun f_dNodes f_dFlows f_nodes f_flows f_clock f_acts a_dKind a_dNumber a_dFrom a_dTo a_dWhen a_kind a_number a_from a_to a_when a_comes a_leaves a_reached a_onFlow a_inNode a_ring a_variable a_marked a_holding a_ables a_known a_stored a_journal R => h _ R))
theorem xl_a47 {post : SX → Prop} {N D : NT} {B : Nat} {c j : DS} {i n : Nat} {x3 : Int32} (W : nt_W N) (I : ic_C N B c) (hB : B < 2 ^ 31) (hi : i < 3) (hn : n < nt_n N) (hk : nt_ki N n = 4 ∨ nt_ki N n = 5) (hx : bm_S x3 (fun f => f < nt_f N ∧ ds_he N c i n f = true))
    (h : ∀ u', xx_R N D (dc_act N c i n) j u' → post u') : ∀ d f {f_dNodes f_dFlows f_nodes f_flows f_clock f_acts : Int32} {a_dKind a_dNumber a_dFrom a_dTo a_dWhen a_kind a_number a_from a_to a_when a_comes a_leaves a_reached a_onFlow a_inNode a_ring a_variable a_marked a_holding a_ables a_known a_stored a_journal : Nat → Int32}, f + d = nt_f N → xx_R N D (dc_tk c i (ds_he N c i n) f) j (f_dNodes, f_dFlows, f_nodes, f_flows, f_clock, f_acts, a_dKind, a_dNumber, a_dFrom, a_dTo, a_dWhen, a_kind, a_number, a_from, a_to, a_when, a_comes, a_leaves, a_reached, a_onFlow, a_inNode, a_ring, a_variable, a_marked, a_holding, a_ables, a_known, a_stored, a_journal) → wX_act_47 post (nI i) (nI n) x3 (nI (nt_ki N n)) (d + 1) (nI f) f_dNodes f_dFlows f_nodes f_flows f_clock f_acts a_dKind a_dNumber a_dFrom a_dTo a_dWhen a_kind a_number a_from a_to a_when a_comes a_leaves a_reached a_onFlow a_inNode a_ring a_variable a_marked a_holding a_ables a_known a_stored a_journal := by
  have W12 := W.1.1
  have W20 := W.1.2.1
  have vn : vp_in (nI n) 12 := vp_in_nI (by omega) (by omega)
  have kn : (nI n).toNatClampNeg = n := nI_clamp (by omega)
  have hl := W.2.2.1 n hn (by omega) (by omega)
  have X : ∀ f {f_dNodes f_dFlows f_nodes f_flows f_clock f_acts : Int32} {a_dKind a_dNumber a_dFrom a_dTo a_dWhen a_kind a_number a_from a_to a_when a_comes a_leaves a_reached a_onFlow a_inNode a_ring a_variable a_marked a_holding a_ables a_known a_stored a_journal : Nat → Int32}, f ≤ nt_f N → (∀ e, f ≤ e → e < nt_f N → ¬ ds_he N c i n e = true) → xx_R N D (dc_tk c i (ds_he N c i n) f) j (f_dNodes, f_dFlows, f_nodes, f_flows, f_clock, f_acts, a_dKind, a_dNumber, a_dFrom, a_dTo, a_dWhen, a_kind, a_number, a_from, a_to, a_when, a_comes, a_leaves, a_reached, a_onFlow, a_inNode, a_ring, a_variable, a_marked, a_holding, a_ables, a_known, a_stored, a_journal) → ((nI (nt_ki N n) = 4 → (vp_in (nI n) 12 ∧ (wX_act_98 post (nI i) (a_leaves (nI n).toNatClampNeg) f_dNodes f_dFlows f_nodes f_flows f_clock f_acts a_dKind a_dNumber a_dFrom a_dTo a_dWhen a_kind a_number a_from a_to a_when a_comes a_leaves a_reached a_onFlow a_inNode a_ring a_variable a_marked a_holding a_ables a_known a_stored a_journal))) ∧ (¬ nI (nt_ki N n) = 4 → (wpX_chosen (fun r_10 => (wX_act_98 post (nI i) r_10 f_dNodes f_dFlows f_nodes f_flows f_clock f_acts a_dKind a_dNumber a_dFrom a_dTo a_dWhen a_kind a_number a_from a_to a_when a_comes a_leaves a_reached a_onFlow a_inNode a_ring a_variable a_marked a_holding a_ables a_known a_stored a_journal)) (f_dNodes, f_dFlows, f_nodes, f_flows, f_clock, f_acts, a_dKind, a_dNumber, a_dFrom, a_dTo, a_dWhen, a_kind, a_number, a_from, a_to, a_when, a_comes, a_leaves, a_reached, a_onFlow, a_inNode, a_ring, a_variable, a_marked, a_holding, a_ables, a_known, a_stored, a_journal) (nI i) (nI n)))) := by
    intro f f_dNodes f_dFlows f_nodes f_flows f_clock f_acts a_dKind a_dNumber a_dFrom a_dTo a_dWhen a_kind a_number a_from a_to a_when a_comes a_leaves a_reached a_onFlow a_inNode a_ring a_variable a_marked a_holding a_ables a_known a_stored a_journal hf he R
    have e := dc_tkE (c := c) (i := i) (f := f) (S := ds_he N c i n) (nt_f N - f) (fun e h1 h2 => he e h1 (by omega))
    rw [show f + (nt_f N - f) = nt_f N from by omega] at e
    rw [← e] at R
    refine pk_eq (nt_ki N n) 4 (fun k4 => And.intro vn ?_) (fun k4 => xl_chosen W.1 R hi hn hl (fun r hr => xl_a98 (S := ds_cb N (dc_tk c i (ds_he N c i n) (nt_f N)) i n) W.1 R hi (bm_imp hr (fun e _ => ?_)) ?_))
    · rw [kn]
      rw [dc_b4 k4] at h
      exact xl_a98 W.1 R hi (bm_imp (R.2.1.2.1.2 n hn) (fun e _ => by rw [decide_eq_true_iff])) h
    · exact ⟨fun z => ⟨z.1, ds_cbi.mp z.2⟩, fun z => ⟨z.1, ds_cbi.mpr z.2⟩⟩
    · rw [dc_b5 (by omega)] at h
      exact h
  intro d
  induction d with
  | zero =>
    intro f f_dNodes f_dFlows f_nodes f_flows f_clock f_acts a_dKind a_dNumber a_dFrom a_dTo a_dWhen a_kind a_number a_from a_to a_when a_comes a_leaves a_reached a_onFlow a_inNode a_ring a_variable a_marked a_holding a_ables a_known a_stored a_journal hf R
    rw [wX_act_47]
    exact br_t ((bm_shr hx (by omega)).mpr (fun e h1 h2 h3 => by omega)) (X f (by omega) (fun e h1 h2 => by omega) R)
  | succ d ih =>
    intro f f_dNodes f_dFlows f_nodes f_flows f_clock f_acts a_dKind a_dNumber a_dFrom a_dTo a_dWhen a_kind a_number a_from a_to a_when a_comes a_leaves a_reached a_onFlow a_inNode a_ring a_variable a_marked a_holding a_ables a_known a_stored a_journal hf R
    rw [wX_act_47]
    refine br_c (fun z => X f (by omega) (fun e h1 h2 h3 => (bm_shr hx (by omega)).mp z e h1 (by omega) ⟨h2, h3⟩) R) (fun z => br_c (fun b => ?_) (fun b => ?_))
    · have q := (bm_bit1 hx (by omega)).mp b
      have o : ds_on (dc_tk c i (ds_he N c i n) f) (20 * i + f) = ds_on c (20 * i + f) := by rw [dc_tkO, if_neg (by omega)]; rfl
      have p := (ds_hei.mp q.2).2
      unfold ds_P at p
      have b2 := ic_on I hi (show f < 20 by omega)
      refine xl_take W.1 R hi (by omega) (by omega) (by omega) (xx_all (fun f_dNodes f_dFlows f_nodes f_flows f_clock f_acts a_dKind a_dNumber a_dFrom a_dTo a_dWhen a_kind a_number a_from a_to a_when a_comes a_leaves a_reached a_onFlow a_inNode a_ring a_variable a_marked a_holding a_ables a_known a_stored a_journal R' => nm_r (nI_1 f) (ih (f + 1) (by omega) ?_)))
      rw [dc_tkT q.2]
      exact R'
    · have q : ¬ ds_he N c i n f = true := fun w => b ((bm_bit1 hx (by omega)).mpr ⟨by omega, w⟩)
      refine nm_r (nI_1 f) (ih (f + 1) (by omega) ?_)
      rw [dc_tkF q]
      exact R
theorem xl_a318 {post : SX → Prop} {N D : NT} {c j : DS} {i n : Nat} {f_dNodes f_dFlows f_nodes f_flows f_clock f_acts : Int32} {a_dKind a_dNumber a_dFrom a_dTo a_dWhen a_kind a_number a_from a_to a_when a_comes a_leaves a_reached a_onFlow a_inNode a_ring a_variable a_marked a_holding a_ables a_known a_stored a_journal : Nat → Int32} (W : nt_W N) (R : xx_R N D c j (f_dNodes, f_dFlows, f_nodes, f_flows, f_clock, f_acts, a_dKind, a_dNumber, a_dFrom, a_dTo, a_dWhen, a_kind, a_number, a_from, a_to, a_when, a_comes, a_leaves, a_reached, a_onFlow, a_inNode, a_ring, a_variable, a_marked, a_holding, a_ables, a_known, a_stored, a_journal)) (hi : i < 3) (hn : n < nt_n N) (hl : ∃ f, f < nt_f N ∧ nt_fr N f = n) (h : ∀ u', xx_R N D (dc_put c i (nt_lv N n)) j u' → post u') : wX_act_318 post (nI i) (nI n) f_dNodes f_dFlows f_nodes f_flows f_clock f_acts a_dKind a_dNumber a_dFrom a_dTo a_dWhen a_kind a_number a_from a_to a_when a_comes a_leaves a_reached a_onFlow a_inNode a_ring a_variable a_marked a_holding a_ables a_known a_stored a_journal := by
  have hn12 : n < 12 := by have := W.1.1; omega
  have vn : vp_in (nI n) 12 := vp_in_nI hn12 (by omega)
  have kn : (nI n).toNatClampNeg = n := nI_clamp (by omega)
  refine And.intro vn ?_
  rw [kn]
  refine xl_lv W.1.2.1 (R.2.1.2.1.2 n hn) hl (xl_put W.1 (xx_Rw hi R) hi (by have := (nt_lvE hl).1; have := W.1.2.1; omega) ?_)
  exact xx_all (fun f_dNodes f_dFlows f_nodes f_flows f_clock f_acts a_dKind a_dNumber a_dFrom a_dTo a_dWhen a_kind a_number a_from a_to a_when a_comes a_leaves a_reached a_onFlow a_inNode a_ring a_variable a_marked a_holding a_ables a_known a_stored a_journal R' => h _ R')
theorem xl_a268 {post : SX → Prop} {N D : NT} {B : Nat} {c j : DS} {i n : Nat} {f_dNodes f_dFlows f_nodes f_flows f_clock f_acts : Int32} {a_dKind a_dNumber a_dFrom a_dTo a_dWhen a_kind a_number a_from a_to a_when a_comes a_leaves a_reached a_onFlow a_inNode a_ring a_variable a_marked a_holding a_ables a_known a_stored a_journal : Nat → Int32} (W : nt_W N) (I : ic_C N B c) (hB : B < 2 ^ 31) (R : xx_R N D c j (f_dNodes, f_dFlows, f_nodes, f_flows, f_clock, f_acts, a_dKind, a_dNumber, a_dFrom, a_dTo, a_dWhen, a_kind, a_number, a_from, a_to, a_when, a_comes, a_leaves, a_reached, a_onFlow, a_inNode, a_ring, a_variable, a_marked, a_holding, a_ables, a_known, a_stored, a_journal)) (hi : i < 3) (hn : n < nt_n N) (hk : nt_ki N n = 7 ∨ nt_ki N n = 8) (h : ∀ u', xx_R N D (dc_act1 N c i n) j u' → post u') : wX_act_268 post (nI i) (nI n) (nI (nt_ki N n)) f_dNodes f_dFlows f_nodes f_flows f_clock f_acts a_dKind a_dNumber a_dFrom a_dTo a_dWhen a_kind a_number a_from a_to a_when a_comes a_leaves a_reached a_onFlow a_inNode a_ring a_variable a_marked a_holding a_ables a_known a_stored a_journal := by
  have R' := R
  obtain ⟨RD, RN, RS, RM, RJ⟩ := R
  have W12 := W.1.1
  have vn : vp_in (nI n) 12 := vp_in_nI (by omega) (by omega)
  have kn : (nI n).toNatClampNeg = n := nI_clamp (by omega)
  have hl := W.2.2.1 n hn (by omega) (by omega)
  obtain ⟨w1, w2, w3, w4, w5⟩ := W.1.2.2.2.1 n hn
  have en : a_number (nI n).toNatClampNeg = nI (nt_nu N n) := by rw [kn]; exact RN.1.2.2.2.1 n hn
  refine pk_eq (nt_ki N n) 8 (fun k8 => And.intro vn ?_) (fun k8 => And.intro vn ?_)
  · rw [dc_a8 k8] at h
    rw [en]
    exact xl_send W I hB R' (w4 k8) (xx_all (fun f_dNodes f_dFlows f_nodes f_flows f_clock f_acts a_dKind a_dNumber a_dFrom a_dTo a_dWhen a_kind a_number a_from a_to a_when a_comes a_leaves a_reached a_onFlow a_inNode a_ring a_variable a_marked a_holding a_ables a_known a_stored a_journal R => xl_a318 W R hi hn hl h))
  · rw [dc_a7 (by omega)] at h
    rw [en]
    have r3 : (nI (nt_nu N n) - nI (nt_nu N n) / 3 * 3 : Int32) = nI (nt_nu N n % 3) := pk_rem (d := 3) (by omega) (by omega) (by omega)
    have ex : (3 * nI i + (nI (nt_nu N n) - nI (nt_nu N n) / 3 * 3) : Int32) = nI (3 * i + nt_nu N n % 3) := by rw [r3]; exact ix_m 3 i _
    have d3 : (nI (nt_nu N n) / 3 : Int32) = nI (nt_nu N n / 3) := pk_div (d := 3) (by omega) (by omega) (by omega)
    have vx : vp_in (3 * nI i + (nI (nt_nu N n) - nI (nt_nu N n) / 3 * 3)) 9 := by rw [ex]; exact vp_in_nI (by omega) (by omega)
    refine And.intro ix_30 (And.intro vx (And.intro vn (And.intro ix_30 (And.intro vx (nm_r (e' := upd a_variable (3 * i + nt_nu N n % 3) (ds_va c (3 * i + nt_nu N n % 3) + (nI (nt_nu N n / 3) - 4))) ?_ (xl_a318 W (c := dc_set c i (nt_nu N n)) ⟨RD, RN, ⟨RS.1, RS.2.1, RS.2.2.1, ?_, RS.2.2.2.2⟩, RM, RJ⟩ hi hn hl h))))))
    · rw [ex, nI_clamp (by omega), d3, RS.2.2.2.1 _ (by omega)]
    · intro k hk
      show upd a_variable _ _ k = upd (ds_va c) _ _ k
      by_cases e : k = 3 * i + nt_nu N n % 3
      · subst e; rw [pk_us, pk_us]
      · rw [pk_un e, pk_un e]; exact RS.2.2.2.1 k hk
theorem ix_100 : ¬ (10 : Int32) = 0 := by decide
theorem xl_act {post : SX → Prop} {N D : NT} {B : Nat} {c j : DS} {i n : Nat} {f_dNodes f_dFlows f_nodes f_flows f_clock f_acts : Int32} {a_dKind a_dNumber a_dFrom a_dTo a_dWhen a_kind a_number a_from a_to a_when a_comes a_leaves a_reached a_onFlow a_inNode a_ring a_variable a_marked a_holding a_ables a_known a_stored a_journal : Nat → Int32} (W : nt_W N) (I : ic_C N B c) (hB : B < 2 ^ 30) (R : xx_R N D c j (f_dNodes, f_dFlows, f_nodes, f_flows, f_clock, f_acts, a_dKind, a_dNumber, a_dFrom, a_dTo, a_dWhen, a_kind, a_number, a_from, a_to, a_when, a_comes, a_leaves, a_reached, a_onFlow, a_inNode, a_ring, a_variable, a_marked, a_holding, a_ables, a_known, a_stored, a_journal)) (hi : i < 3) (hn : n < nt_n N) (hc : ds_Can N c i n) (h : ∀ u', xx_R N D (dc_act N (dc_ac c (ds_ac c + 1)) i n) j u' → post u') : wpX_act post (f_dNodes, f_dFlows, f_nodes, f_flows, f_clock, f_acts, a_dKind, a_dNumber, a_dFrom, a_dTo, a_dWhen, a_kind, a_number, a_from, a_to, a_when, a_comes, a_leaves, a_reached, a_onFlow, a_inNode, a_ring, a_variable, a_marked, a_holding, a_ables, a_known, a_stored, a_journal) (nI i) (nI n) := by
  obtain ⟨RD, RN, RS, RM, RJ⟩ := R
  have W12 := W.1.1
  have W20 := W.1.2.1
  have vi : vp_in (nI i) 3 := vp_in_nI hi (by omega)
  have vn : vp_in (nI n) 12 := vp_in_nI (by omega) (by omega)
  have ki : (nI i).toNatClampNeg = i := nI_clamp (by omega)
  have kn : (nI n).toNatClampNeg = n := nI_clamp (by omega)
  obtain ⟨w1, w2, w3, w4, w5⟩ := W.1.2.2.2.1 n hn
  have hk0 := ic_ki W hn hc
  have G := RM i hi
  have K := RN.2.1.1 n hn
  obtain ⟨f0, hf0, ef0, pf0⟩ := hc.1
  generalize ec : dc_ac c (ds_ac c + 1) = c1 at h
  have I1 : ic_C N (B + 1) c1 := by
    subst ec
    have I' := ic_up I (Nat.le_succ B)
    have := I.2.2.2.2.2.2.2
    exact ⟨I'.1, I'.2.1, I'.2.2.1, I'.2.2.2.1, I'.2.2.2.2.1, I'.2.2.2.2.2.1, I'.2.2.2.2.2.2.1, Nat.succ_le_succ this⟩
  have P1 : ∀ f, ds_P c1 i f ↔ ds_P c i f := by subst ec; exact fun f => Iff.rfl
  have R1 : xx_R N D c1 j (f_dNodes, f_dFlows, f_nodes, f_flows, f_clock, nI (ds_ac c + 1), a_dKind, a_dNumber, a_dFrom, a_dTo, a_dWhen, a_kind, a_number, a_from, a_to, a_when, a_comes, a_leaves, a_reached, a_onFlow, a_inNode, a_ring, a_variable, a_marked, a_holding, a_ables, a_known, a_stored, a_journal) := by
    subst ec
    exact ⟨RD, RN, ⟨RS.1, RS.2.1, RS.2.2.1, RS.2.2.2.1, RS.2.2.2.2.1, RS.2.2.2.2.2.1, rfl⟩, RM, RJ⟩
  have hx : bm_S (a_marked i &&& a_comes n) (fun f => f < nt_f N ∧ ds_he N c1 i n f = true) := by
    refine bm_imp (bm_and G.1 K) (fun f _ => ?_)
    rw [ds_hei, P1 f]
    exact ⟨fun z => ⟨z.2.1, z.2.2, z.1.2⟩, fun z => ⟨⟨by omega, z.2.2⟩, z.1, z.2.1⟩⟩
  refine And.intro vi (And.intro vn (nm_r (e' := a_marked i &&& a_comes n) (by rw [ki, kn]) (And.intro vn (nm_r (e' := nI (nt_ki N n)) (by rw [kn]; exact RN.1.2.2.1 n hn) (nm_r (e' := nI (ds_ac c + 1)) (by rw [RS.2.2.2.2.2.2, nI_1]) ?_)))))
  refine pk_eq (nt_ki N n) 4 (fun k4 => ⟨nt_f N + 1, xl_a47 W I1 (by omega) hi hn (Or.inl k4) hx h (nt_f N) 0 (by omega) R1⟩) (fun k4 => pk_eq (nt_ki N n) 5 (fun k5 => ⟨nt_f N + 1, xl_a47 W I1 (by omega) hi hn (Or.inr k5) hx h (nt_f N) 0 (by omega) R1⟩) (fun k5 => ?_))
  refine xl_least hx ⟨f0, by omega, hf0, ds_hei.mpr ⟨ef0, (P1 f0).mpr pf0⟩⟩ (fun f hf pf hl => ?_)
  have es : sr_L (ds_he N c1 i n) (nt_f N) = f := sr_is pf.1 pf.2 (fun j hj => Bool.eq_false_iff.mpr (fun w => hl j hj ⟨by omega, w⟩))
  rw [dc_b0 k4 k5, es] at h
  have pp := (ds_hei.mp pf.2).2
  unfold ds_P at pp
  have b2 := ic_on I1 hi (show f < 20 by omega)
  have I2 : ic_C N (B + 1) (dc_take c1 i f) := ic_take I1
  generalize ec2 : dc_take c1 i f = c2 at h I2
  refine xl_take W.1 R1 hi (by omega) pp (by omega) ?_
  rw [ec2]
  refine xx_all (fun f_dNodes f_dFlows f_nodes f_flows f_clock f_acts a_dKind a_dNumber a_dFrom a_dTo a_dWhen a_kind a_number a_from a_to a_when a_comes a_leaves a_reached a_onFlow a_inNode a_ring a_variable a_marked a_holding a_ables a_known a_stored a_journal R => ?_)
  refine pk_lt (nt_ki N n) 1 (fun z => absurd z (by omega)) (fun _ => pk_lt 10 (nt_ki N n) (fun z => absurd z (by omega)) (fun _ => pk_eq (nt_ki N n) 1 (fun e => ?_) (fun e1 => pk_eq (nt_ki N n) 2 (fun e => ?_) (fun e2 => pk_eq (nt_ki N n) 3 (fun e => ?_) (fun e3 => pk_eq (nt_ki N n) 4 (fun e => absurd e k4) (fun _ => pk_eq (nt_ki N n) 5 (fun e => absurd e k5) (fun _ => pk_eq (nt_ki N n) 6 (fun e => ?_) (fun e6 => pk_eq (nt_ki N n) 7 (fun e => ?_) (fun e7 => pk_eq (nt_ki N n) 8 (fun e => ?_) (fun e8 => pk_eq (nt_ki N n) 9 (fun e => ?_) (fun e9 => pk_eq (nt_ki N n) 10 (fun e => ?_) (fun e10 => absurd w1 (by omega)))))))))))))
  · rw [dc_a1 e] at h; exact h _ R
  · rw [dc_a2 e] at h; exact xl_enter W.1 R hi (by omega) (xx_all (fun f_dNodes f_dFlows f_nodes f_flows f_clock f_acts a_dKind a_dNumber a_dFrom a_dTo a_dWhen a_kind a_number a_from a_to a_when a_comes a_leaves a_reached a_onFlow a_inNode a_ring a_variable a_marked a_holding a_ables a_known a_stored a_journal R => h _ R))
  · rw [dc_a3 e] at h
    have hlv := W.2.2.1 n hn (by omega) (by omega)
    refine xl_chosen W.1 R hi hn hlv (fun r hr => ?_)
    have hr' : bm_S r (fun e => e < nt_f N ∧ ds_cb N c2 i n e = true) := bm_imp hr (fun e _ => ⟨fun z => ⟨z.1, ds_cbi.mp z.2⟩, fun z => ⟨z.1, ds_cbi.mpr z.2⟩⟩)
    have hne : ∃ e, e < 32 ∧ (e < nt_f N ∧ ds_cb N c2 i n e = true) := by
      by_cases q : ds_an N c2 i n
      · obtain ⟨e, h1, h2⟩ := q
        exact ⟨e, by omega, h1, ds_cbi.mp (Or.inl ⟨⟨e, h1, h2⟩, h2⟩)⟩
      · have := (nt_laE hlv).1
        exact ⟨nt_la N n, by omega, this, ds_cbi.mp (Or.inr ⟨q, rfl⟩)⟩
    refine xl_least hr' hne (fun f hf pf hl => ?_)
    have es : sr_L (ds_cb N c2 i n) (nt_f N) = f := sr_is pf.1 pf.2 (fun j hj => Bool.eq_false_iff.mpr (fun w => hl j hj ⟨by omega, w⟩))
    rw [es] at h
    exact xl_put W.1 (xx_Rw hi R) hi (by omega) (xx_all (fun f_dNodes f_dFlows f_nodes f_flows f_clock f_acts a_dKind a_dNumber a_dFrom a_dTo a_dWhen a_kind a_number a_from a_to a_when a_comes a_leaves a_reached a_onFlow a_inNode a_ring a_variable a_marked a_holding a_ables a_known a_stored a_journal R => h _ R))
  · rw [dc_a6 e] at h
    refine xl_enter W.1 R hi (by omega) (xx_all (fun f_dNodes f_dFlows f_nodes f_flows f_clock f_acts a_dKind a_dNumber a_dFrom a_dTo a_dWhen a_kind a_number a_from a_to a_when a_comes a_leaves a_reached a_onFlow a_inNode a_ring a_variable a_marked a_holding a_ables a_known a_stored a_journal R => ?_))
    obtain ⟨RD, RN, RS, RM, RJ⟩ := R
    have hx1 := (w3 e).1
    have hx2 := (w3 e).2
    have ckb : ds_ck c2 ≤ B + 1 := I2.2.2.2.2.2.2.1
    have eck : f_clock = nI (ds_ck c2) := RS.2.2.2.2.2.1
    have en : a_number (nI n).toNatClampNeg = nI (nt_nu N n) := by rw [kn]; exact RN.1.2.2.2.1 n hn
    dsimp only
    rw [en, eck, nI_add]
    have r10 : (nI (ds_ck c2 + nt_nu N n) - nI (ds_ck c2 + nt_nu N n) / 10 * 10 : Int32) = nI ((ds_ck c2 + nt_nu N n) % 10) := pk_rem (d := 10) (by omega) (by omega) (by omega)
    have ex : (120 * nI i + 10 * nI n + (nI (ds_ck c2 + nt_nu N n) - nI (ds_ck c2 + nt_nu N n) / 10 * 10) : Int32) = nI (10 * (12 * i + n) + (ds_ck c2 + nt_nu N n) % 10) := by
      rw [r10, show (120 * nI i : Int32) = nI (120 * i) from pk_mul 120 i, show (10 * nI n : Int32) = nI (10 * n) from pk_mul 10 n, nI_add, nI_add]
      exact congrArg nI (by omega)
    rw [ex]
    have vx : vp_in (nI (10 * (12 * i + n) + (ds_ck c2 + nt_nu N n) % 10)) 360 := vp_in_nI (by omega) (by omega)
    have kx : (nI (10 * (12 * i + n) + (ds_ck c2 + nt_nu N n) % 10)).toNatClampNeg = 10 * (12 * i + n) + (ds_ck c2 + nt_nu N n) % 10 := nI_clamp (by omega)
    refine And.intro vn (And.intro ix_100 (And.intro vx (And.intro vx (nm_r (e' := upd a_ring (10 * (12 * i + n) + (ds_ck c2 + nt_nu N n) % 10) (nI (ds_tm c2 (10 * (12 * i + n) + nt_nu N n) + 1))) ?_ (h _ ⟨RD, RN, ⟨RS.1, RS.2.1, ?_, RS.2.2.2.1, RS.2.2.2.2.1, rfl, RS.2.2.2.2.2.2⟩, RM, RJ⟩)))))
    · have := RS.2.2.1 (12 * i + n) (nt_nu N n) (by omega) hx2
      have e9 : a_ring (10 * (12 * i + n) + (ds_ck c2 + nt_nu N n) % 10) = nI (ds_tm c2 (10 * (12 * i + n) + nt_nu N n)) := this
      rw [kx, e9, nI_1]
    · intro k t hk ht
      show upd a_ring _ _ (10 * k + (ds_ck c2 + t) % 10) = nI (un_U (ds_tm c2) (10 * (12 * i + n) + nt_nu N n) _ (10 * k + t))
      by_cases q : 10 * k + t = 10 * (12 * i + n) + nt_nu N n
      · have q2 : 10 * k + (ds_ck c2 + t) % 10 = 10 * (12 * i + n) + (ds_ck c2 + nt_nu N n) % 10 := by
          have : k = 12 * i + n := by omega
          have : t = nt_nu N n := by omega
          subst this
          omega
        rw [q, q2, pk_us, un_s]
        rfl
      · rw [un_n q, pk_un (by omega)]
        exact RS.2.2.1 k t hk ht
  · exact xl_a268 W I2 (by omega) R hi hn (Or.inl e) h
  · exact xl_a268 W I2 (by omega) R hi hn (Or.inr e) h
  · rw [dc_a9 e] at h; exact xl_receive W I2 R hi hn e (xx_all (fun f_dNodes f_dFlows f_nodes f_flows f_clock f_acts a_dKind a_dNumber a_dFrom a_dTo a_dWhen a_kind a_number a_from a_to a_when a_comes a_leaves a_reached a_onFlow a_inNode a_ring a_variable a_marked a_holding a_ables a_known a_stored a_journal R => h _ R))
  · rw [dc_a10 e] at h; exact xl_empty W.1 (xx_Rw hi R) hi (xx_all (fun f_dNodes f_dFlows f_nodes f_flows f_clock f_acts a_dKind a_dNumber a_dFrom a_dTo a_dWhen a_kind a_number a_from a_to a_when a_comes a_leaves a_reached a_onFlow a_inNode a_ring a_variable a_marked a_holding a_ables a_known a_stored a_journal R => h _ R))
end
section
/-! Y's state as a picture, and its small methods -/
def yy_S (c : DS) (va on inn tm st : Nat → Int32) (ck ac : Int32) : Prop :=
  (∀ k, k < 60 → on k = nI (ds_on c k)) ∧ (∀ k, k < 36 → inn k = nI (ds_in c k - ds_sm c k)) ∧ (∀ k, k < 360 → tm k = nI (ds_tm c k)) ∧
  (∀ k, k < 9 → va k = ds_va c k) ∧ (∀ k, k < 3 → st k = nI (ds_st c k)) ∧ ck = nI (ds_ck c) ∧ ac = nI (ds_ac c)
def yy_J (j : DS) (b_variables b_on b_in b_times b_stored b_clock b_acts : Nat → Int32) : Prop :=
  yy_S j (fun k => b_variables (9 + k)) (fun k => b_on (60 + k)) (fun k => b_in (36 + k)) (fun k => b_times (360 + k)) (fun k => b_stored (3 + k)) (b_clock 1) (b_acts 1)
def yy_R (N D : NT) (c j : DS) (v : SY) : Prop := match v with
  | (b_kind, b_number, b_from, b_to, b_cond, b_nodes, b_flows, b_variables, b_on, b_in, b_times, b_stored, b_clock, b_acts, b_reached) => xx_D D (b_nodes 1) (b_flows 1) (fun n => b_kind (12 + n)) (fun n => b_number (12 + n)) (fun f => b_from (20 + f)) (fun f => b_to (20 + f)) (fun f => b_cond (20 + f)) ∧
    xx_D N (b_nodes 0) (b_flows 0) b_kind b_number b_from b_to b_cond ∧
    yy_S c b_variables b_on b_in b_times b_stored (b_clock 0) (b_acts 0) ∧ yy_J j b_variables b_on b_in b_times b_stored b_clock b_acts
theorem yy_all {P : SY → Prop} (h : ∀ b_kind b_number b_from b_to b_cond b_nodes b_flows b_variables b_on b_in b_times b_stored b_clock b_acts b_reached, P (b_kind, b_number, b_from, b_to, b_cond, b_nodes, b_flows, b_variables, b_on, b_in, b_times, b_stored, b_clock, b_acts, b_reached)) (u : SY) : P u := h u.1 u.2.1 u.2.2.1 u.2.2.2.1 u.2.2.2.2.1 u.2.2.2.2.2.1 u.2.2.2.2.2.2.1 u.2.2.2.2.2.2.2.1 u.2.2.2.2.2.2.2.2.1 u.2.2.2.2.2.2.2.2.2.1 u.2.2.2.2.2.2.2.2.2.2.1 u.2.2.2.2.2.2.2.2.2.2.2.1 u.2.2.2.2.2.2.2.2.2.2.2.2.1 u.2.2.2.2.2.2.2.2.2.2.2.2.2.1 u.2.2.2.2.2.2.2.2.2.2.2.2.2.2
theorem yy_va {j : DS} {va va' on inn tm st ck ac : Nat → Int32} (h : yy_J j va on inn tm st ck ac) (e : ∀ k, k < 9 → va' (9 + k) = va (9 + k)) : yy_J j va' on inn tm st ck ac :=
  ⟨h.1, h.2.1, h.2.2.1, fun k hk => (e k hk).trans (h.2.2.2.1 k hk), h.2.2.2.2⟩
theorem yy_on {j : DS} {va on on' inn tm st ck ac : Nat → Int32} (h : yy_J j va on inn tm st ck ac) (e : ∀ k, k < 60 → on' (60 + k) = on (60 + k)) : yy_J j va on' inn tm st ck ac :=
  ⟨fun k hk => (e k hk).trans (h.1 k hk), h.2⟩
theorem yy_in {j : DS} {va on inn inn' tm st ck ac : Nat → Int32} (h : yy_J j va on inn tm st ck ac) (e : ∀ k, k < 36 → inn' (36 + k) = inn (36 + k)) : yy_J j va on inn' tm st ck ac :=
  ⟨h.1, fun k hk => (e k hk).trans (h.2.1 k hk), h.2.2⟩
theorem yy_tm {j : DS} {va on inn tm tm' st ck ac : Nat → Int32} (h : yy_J j va on inn tm st ck ac) (e : ∀ k, k < 360 → tm' (360 + k) = tm (360 + k)) : yy_J j va on inn tm' st ck ac :=
  ⟨h.1, h.2.1, fun k hk => (e k hk).trans (h.2.2.1 k hk), h.2.2.2⟩
theorem yy_st {j : DS} {va on inn tm st st' ck ac : Nat → Int32} (h : yy_J j va on inn tm st ck ac) (e : ∀ k, k < 3 → st' (3 + k) = st (3 + k)) : yy_J j va on inn tm st' ck ac :=
  ⟨h.1, h.2.1, h.2.2.1, h.2.2.2.1, fun k hk => (e k hk).trans (h.2.2.2.2.1 k hk), h.2.2.2.2.2⟩
theorem yl_io15 {post : Int32 → Prop} {c : DS} {i n a : Nat} {b_kind b_number b_from b_to b_cond b_nodes b_flows b_variables b_on b_in b_times b_stored b_clock b_acts b_reached : Nat → Int32} (hi : i < 3) (hn : n < 12) (ht : ∀ k, k < 360 → b_times k = nI (ds_tm c k)) (h : post (nI (a + ds_sm c (12 * i + n)))) :
    ∀ d t, t + d = 10 → wY_insideOf_15 post (nI i) (nI n) b_kind b_number b_from b_to b_cond b_nodes b_flows b_variables b_on b_in b_times b_stored b_clock b_acts b_reached (d + 1) (nI (a + sm_N (fun t => ds_tm c (10 * (12 * i + n) + t)) t)) (nI t) := by
  intro d
  induction d with
  | zero =>
    intro t hd
    have : t = 10 := by omega
    subst this
    rw [wY_insideOf_15]
    exact br_t (nI_le (Nat.le_refl _) (by omega)) h
  | succ d ih =>
    intro t hd
    have ex : (120 * nI i + 10 * nI n + nI t : Int32) = nI (10 * (12 * i + n) + t) := by
      rw [show (120 * nI i : Int32) = nI (120 * i) from pk_mul 120 i, show (10 * nI n : Int32) = nI (10 * n) from pk_mul 10 n, nI_add, nI_add]
      exact congrArg nI (by omega)
    rw [wY_insideOf_15]
    refine br_f (nI_ge (b := 10) (by omega) (by omega)) (And.intro (by rw [ex]; exact vp_in_nI (by omega) (by omega)) (nm_r (e' := nI (a + sm_N (fun t => ds_tm c (10 * (12 * i + n) + t)) (t + 1))) ?_ (nm_r (nI_1 t) (ih (t + 1) (by omega)))))
    rw [ex, nI_clamp (by omega), ht _ (by omega), nI_add]
    exact congrArg nI (Nat.add_assoc _ _ _)
theorem yl_insideOf {post : Int32 → Prop} {N D : NT} {B : Nat} {c j : DS} {i n : Nat} {b_kind b_number b_from b_to b_cond b_nodes b_flows b_variables b_on b_in b_times b_stored b_clock b_acts b_reached : Nat → Int32} (I : ic_C N B c) (R : yy_R N D c j (b_kind, b_number, b_from, b_to, b_cond, b_nodes, b_flows, b_variables, b_on, b_in, b_times, b_stored, b_clock, b_acts, b_reached)) (hi : i < 3) (hn : n < 12) (h : post (nI (ds_in c (12 * i + n)))) : wpY_insideOf post (b_kind, b_number, b_from, b_to, b_cond, b_nodes, b_flows, b_variables, b_on, b_in, b_times, b_stored, b_clock, b_acts, b_reached) (nI i) (nI n) := by
  obtain ⟨RD, RN, RS, RJ⟩ := R
  have ex : (12 * nI i + nI n : Int32) = nI (12 * i + n) := ix_m 12 i n
  refine And.intro (by rw [ex]; exact vp_in_nI (by omega) (by omega)) (nm_r (e' := nI (ds_in c (12 * i + n) - ds_sm c (12 * i + n) + 0)) ?_ ⟨11, yl_io15 hi hn RS.2.2.1 ?_ 10 0 (by omega)⟩)
  · rw [ex, nI_clamp (by omega)]
    exact RS.2.1 _ (by omega)
  · rw [Nat.sub_add_cancel (ic_sml I hi hn)]
    exact h
theorem yl_al32 {post : Int32 → Prop} {N D : NT} {B : Nat} {c j : DS} {i : Nat} {b_kind b_number b_from b_to b_cond b_nodes b_flows b_variables b_on b_in b_times b_stored b_clock b_acts b_reached : Nat → Int32} (W : nt_W N) (I : ic_C N B c) (hB : B < 2 ^ 31) (R : yy_R N D c j (b_kind, b_number, b_from, b_to, b_cond, b_nodes, b_flows, b_variables, b_on, b_in, b_times, b_stored, b_clock, b_acts, b_reached)) (hi : i < 3) (h1 : ds_Al c i → post 1) (h0 : ¬ ds_Al c i → post 0) (hf : ∀ f, f < 20 → ¬ ds_P c i f) :
    ∀ d n, n + d = 12 → (∀ m, m < n → ¬ ds_Q c i m) → wY_alive_32 post (nI i) b_kind b_number b_from b_to b_cond b_nodes b_flows b_variables b_on b_in b_times b_stored b_clock b_acts b_reached (d + 1) (nI n) := by
  intro d
  induction d with
  | zero =>
    intro n hd hl
    rw [wY_alive_32]
    refine br_t (nI_le (a := 12) (by omega) (by omega)) (h0 ?_)
    rintro (⟨f, a, b⟩ | ⟨m, a, b⟩)
    · exact hf f a b
    · exact hl m (by omega) b
  | succ d ih =>
    intro n hd hl
    rw [wY_alive_32]
    have b := ic_in W I hi (show n < 12 by omega)
    refine br_f (nI_ge (b := 12) (by omega) (by omega)) (yl_insideOf I R hi (by omega) (pk_le (ds_in c (12 * i + n)) 0 (fun q => nm_r (nI_1 n) (ih (n + 1) (by omega) (fun m hm => ?_))) (fun q => h1 (Or.inr ⟨n, by omega, q⟩))))
    by_cases e : m = n
    · subst e; unfold ds_Q; omega
    · exact hl m (by omega)
theorem yl_al2 {post : Int32 → Prop} {N D : NT} {B : Nat} {c j : DS} {i : Nat} {b_kind b_number b_from b_to b_cond b_nodes b_flows b_variables b_on b_in b_times b_stored b_clock b_acts b_reached : Nat → Int32} (W : nt_W N) (I : ic_C N B c) (hB : B < 2 ^ 31) (R : yy_R N D c j (b_kind, b_number, b_from, b_to, b_cond, b_nodes, b_flows, b_variables, b_on, b_in, b_times, b_stored, b_clock, b_acts, b_reached)) (hi : i < 3) (h1 : ds_Al c i → post 1) (h0 : ¬ ds_Al c i → post 0) :
    ∀ d f, f + d = 20 → (∀ m, m < f → ¬ ds_P c i m) → wY_alive_2 post (nI i) b_kind b_number b_from b_to b_cond b_nodes b_flows b_variables b_on b_in b_times b_stored b_clock b_acts b_reached (d + 1) (nI f) := by
  intro d
  induction d with
  | zero =>
    intro f hd hl
    rw [wY_alive_2]
    exact br_t (nI_le (a := 20) (by omega) (by omega)) ⟨13, yl_al32 W I hB R hi h1 h0 (fun m hm => hl m (by omega)) 12 0 (by omega) (fun m hm => by omega)⟩
  | succ d ih =>
    intro f hd hl
    have ex : (20 * nI i + nI f : Int32) = nI (20 * i + f) := ix_m 20 i f
    have b := ic_on I hi (show f < 20 by omega)
    rw [wY_alive_2]
    refine br_f (nI_ge (b := 20) (by omega) (by omega)) (And.intro (by rw [ex]; exact vp_in_nI (by omega) (by omega)) (pk_le (ds_on c (20 * i + f)) 0 (fun q => nm_r (nI_1 f) (ih (f + 1) (by omega) (fun m hm => ?_))) (fun q => h1 (Or.inl ⟨f, by omega, q⟩)) ?_))
    · by_cases e : m = f
      · subst e; unfold ds_P; omega
      · exact hl m (by omega)
    · rw [ex, nI_clamp (by omega)]; exact R.2.2.1.1 _ (by omega)
theorem yl_alive {post : Int32 → Prop} {N D : NT} {B : Nat} {c j : DS} {i : Nat} {b_kind b_number b_from b_to b_cond b_nodes b_flows b_variables b_on b_in b_times b_stored b_clock b_acts b_reached : Nat → Int32} (W : nt_W N) (I : ic_C N B c) (hB : B < 2 ^ 31) (R : yy_R N D c j (b_kind, b_number, b_from, b_to, b_cond, b_nodes, b_flows, b_variables, b_on, b_in, b_times, b_stored, b_clock, b_acts, b_reached)) (hi : i < 3) (h1 : ds_Al c i → post 1) (h0 : ¬ ds_Al c i → post 0) : wpY_alive post (b_kind, b_number, b_from, b_to, b_cond, b_nodes, b_flows, b_variables, b_on, b_in, b_times, b_stored, b_clock, b_acts, b_reached) (nI i) :=
  ⟨21, yl_al2 W I hB R hi h1 h0 20 0 (by omega) (fun m hm => by omega)⟩
/-! the flows that leave -/
theorem yl_lvb {post : Int32 → Prop} {N : NT} {n b : Nat} {b_kind b_number b_from b_to b_cond b_nodes b_flows b_variables b_on b_in b_times b_stored b_clock b_acts b_reached : Nat → Int32} (W : nt_D N) (RN : xx_D N (b_nodes 0) (b_flows 0) b_kind b_number b_from b_to b_cond) (hb : b < nt_f N) (h : post (nI b)) :
    ∀ d f, f + d = nt_f N → wY_leaving_5 post (nI n) 0 b_kind b_number b_from b_to b_cond b_nodes b_flows b_variables b_on b_in b_times b_stored b_clock b_acts b_reached (d + 1) (nI b) (nI f) := by
  have W20 := W.2.1
  intro d
  induction d with
  | zero =>
    intro f hd
    rw [wY_leaving_5]
    exact br_t (by rw [RN.2.1]; exact nI_le (by omega) (by omega)) h
  | succ d ih =>
    intro f hd
    rw [wY_leaving_5]
    refine br_f (by rw [RN.2.1]; exact nI_ge (by omega) (by omega)) (And.intro (vp_in_nI (by omega) (by omega)) (br_c (fun _ => br_t rfl (br_t (nI_pos' (by omega)) (nm_r (nI_1 f) (ih (f + 1) (by omega))))) (fun _ => nm_r (nI_1 f) (ih (f + 1) (by omega)))))
theorem ix_m10 : ¬ (0 : Int32) ≤ -1 := by decide
theorem yl_lva {post : Int32 → Prop} {N : NT} {n : Nat} {b_kind b_number b_from b_to b_cond b_nodes b_flows b_variables b_on b_in b_times b_stored b_clock b_acts b_reached : Nat → Int32} (W : nt_D N) (RN : xx_D N (b_nodes 0) (b_flows 0) b_kind b_number b_from b_to b_cond) (hn : n < 12) (hl : ∃ f, f < nt_f N ∧ nt_fr N f = n) (h : post (nI (nt_lv N n))) :
    ∀ d f, f + d = nt_f N → f ≤ nt_lv N n → wY_leaving_5 post (nI n) 0 b_kind b_number b_from b_to b_cond b_nodes b_flows b_variables b_on b_in b_times b_stored b_clock b_acts b_reached (d + 1) (-1) (nI f) := by
  have W20 := W.2.1
  have W12 := W.1
  obtain ⟨lv1, lv2, lv3⟩ := nt_lvE hl
  intro d
  induction d with
  | zero => intro f hd hf; omega
  | succ d ih =>
    intro f hd hf
    have kf : (nI f).toNatClampNeg = f := nI_clamp (by omega)
    have ef : b_from (nI f).toNatClampNeg = nI (nt_fr N f) := by rw [kf]; exact RN.2.2.2.2.1 f (by omega)
    have hff := (W.2.2.1 f (by omega)).1
    rw [wY_leaving_5]
    refine br_f (by rw [RN.2.1]; exact nI_ge (by omega) (by omega)) (And.intro (vp_in_nI (by omega) (by omega)) (pk_eq (nt_fr N f) n (fun e => br_t rfl (br_f ix_m10 (nm_r (nI_1 f) ?_))) (fun e => nm_r (nI_1 f) (ih (f + 1) (by omega) ?_)) ef rfl))
    · have : f = nt_lv N n := by
        rcases Nat.lt_or_ge f (nt_lv N n) with q | q
        · exact absurd e (lv3 f q)
        · omega
      rw [← this] at h
      exact yl_lvb W RN (by omega) h d (f + 1) (by omega)
    · rcases Nat.lt_or_ge f (nt_lv N n) with q | q
      · omega
      · have : f = nt_lv N n := by omega
        rw [this] at e
        exact absurd lv2 e
theorem yl_lvc {post : Int32 → Prop} {N : NT} {n : Nat} {b_kind b_number b_from b_to b_cond b_nodes b_flows b_variables b_on b_in b_times b_stored b_clock b_acts b_reached : Nat → Int32} (W : nt_D N) (RN : xx_D N (b_nodes 0) (b_flows 0) b_kind b_number b_from b_to b_cond) (hn : n < 12) (hl : ∃ f, f < nt_f N ∧ nt_fr N f = n) (h : post (nI (nt_la N n))) :
    ∀ d f x, f + d = nt_f N → (nt_la N n < f → x = nI (nt_la N n)) → wY_leaving_5 post (nI n) 1 b_kind b_number b_from b_to b_cond b_nodes b_flows b_variables b_on b_in b_times b_stored b_clock b_acts b_reached (d + 1) x (nI f) := by
  have W20 := W.2.1
  have W12 := W.1
  obtain ⟨la1, la2, la3⟩ := nt_laE hl
  intro d
  induction d with
  | zero =>
    intro f x hd hf
    rw [wY_leaving_5]
    exact br_t (by rw [RN.2.1]; exact nI_le (by omega) (by omega)) (by rw [hf (by omega)]; exact h)
  | succ d ih =>
    intro f x hd hf
    have kf : (nI f).toNatClampNeg = f := nI_clamp (by omega)
    have ef : b_from (nI f).toNatClampNeg = nI (nt_fr N f) := by rw [kf]; exact RN.2.2.2.2.1 f (by omega)
    have hff := (W.2.2.1 f (by omega)).1
    rw [wY_leaving_5]
    refine br_f (by rw [RN.2.1]; exact nI_ge (by omega) (by omega)) (And.intro (vp_in_nI (by omega) (by omega)) (pk_eq (nt_fr N f) n (fun e => br_f ix_10 (nm_r (nI_1 f) (ih (f + 1) _ (by omega) (fun q => ?_)))) (fun e => nm_r (nI_1 f) (ih (f + 1) x (by omega) (fun q => hf ?_))) ef rfl))
    · rcases Nat.lt_or_ge (nt_la N n) f with r | r
      · exact absurd e (la3 f r (by omega))
      · exact congrArg nI (by omega)
    · rcases Nat.lt_or_ge (nt_la N n) f with r | r
      · exact r
      · have : f = nt_la N n := by omega
        rw [this] at e
        exact absurd la2 e
theorem yl_lv {post : Int32 → Prop} {N D : NT} {c j : DS} {n : Nat} {b_kind b_number b_from b_to b_cond b_nodes b_flows b_variables b_on b_in b_times b_stored b_clock b_acts b_reached : Nat → Int32} (W : nt_D N) (R : yy_R N D c j (b_kind, b_number, b_from, b_to, b_cond, b_nodes, b_flows, b_variables, b_on, b_in, b_times, b_stored, b_clock, b_acts, b_reached)) (hn : n < 12) (hl : ∃ f, f < nt_f N ∧ nt_fr N f = n) (h : post (nI (nt_lv N n))) : wpY_leaving post (b_kind, b_number, b_from, b_to, b_cond, b_nodes, b_flows, b_variables, b_on, b_in, b_times, b_stored, b_clock, b_acts, b_reached) (nI n) 0 :=
  ⟨nt_f N + 1, yl_lva W R.2.1 hn hl h (nt_f N) 0 (by omega) (Nat.zero_le _)⟩
theorem yl_la {post : Int32 → Prop} {N D : NT} {c j : DS} {n : Nat} {b_kind b_number b_from b_to b_cond b_nodes b_flows b_variables b_on b_in b_times b_stored b_clock b_acts b_reached : Nat → Int32} (W : nt_D N) (R : yy_R N D c j (b_kind, b_number, b_from, b_to, b_cond, b_nodes, b_flows, b_variables, b_on, b_in, b_times, b_stored, b_clock, b_acts, b_reached)) (hn : n < 12) (hl : ∃ f, f < nt_f N ∧ nt_fr N f = n) (h : post (nI (nt_la N n))) : wpY_leaving post (b_kind, b_number, b_from, b_to, b_cond, b_nodes, b_flows, b_variables, b_on, b_in, b_times, b_stored, b_clock, b_acts, b_reached) (nI n) 1 :=
  ⟨nt_f N + 1, yl_lvc W R.2.1 hn hl h (nt_f N) 0 (-1) (by omega) (fun q => by omega)⟩
def dc_putm (c : DS) (i f m : Nat) : DS := dc_on c (un_U (ds_on c) (20 * i + f) (ds_on c (20 * i + f) + m))
theorem yl_pass {post : SY → Prop} {N D : NT} {c j : DS} {i n m : Nat} {x : Int32} {b_kind b_number b_from b_to b_cond b_nodes b_flows b_variables b_on b_in b_times b_stored b_clock b_acts b_reached : Nat → Int32} (W : nt_D N) (R : yy_R N D c j (b_kind, b_number, b_from, b_to, b_cond, b_nodes, b_flows, b_variables, b_on, b_in, b_times, b_stored, b_clock, b_acts, b_reached)) (hi : i < 3) (hn : n < 12) (hl : ∃ f, f < nt_f N ∧ nt_fr N f = n) (hx : x = nI m) (h : ∀ v', yy_R N D (dc_putm c i (nt_lv N n) m) j v' → post v') : wpY_pass post (b_kind, b_number, b_from, b_to, b_cond, b_nodes, b_flows, b_variables, b_on, b_in, b_times, b_stored, b_clock, b_acts, b_reached) (nI i) (nI n) x := by
  have W20 := W.2.1
  have lv1 := (nt_lvE hl).1
  have ex : (20 * nI i + nI (nt_lv N n) : Int32) = nI (20 * i + nt_lv N n) := ix_m 20 i _
  have v : vp_in (20 * nI i + nI (nt_lv N n)) 120 := by rw [ex]; exact vp_in_nI (by omega) (by omega)
  refine yl_lv W R hn hl (And.intro v (And.intro v (nm_r (e' := upd b_on (20 * i + nt_lv N n) (nI (ds_on c (20 * i + nt_lv N n) + m))) ?_ (h _ ⟨R.1, R.2.1, ⟨un_upd R.2.2.1.1 rfl, R.2.2.1.2⟩, yy_on R.2.2.2 (fun k hk => pk_un (by omega))⟩))))
  rw [ex, nI_clamp (by omega), hx, R.2.2.1.1 _ (by omega), nI_add]
/-! Y: empty -/
theorem yl_e54 {post : SY → Prop} {i : Nat} {b_kind b_number b_from b_to b_cond b_nodes b_flows b_variables b_on b_in b_times b_stored b_clock b_acts b_reached : Nat → Int32} (hi : i < 3) (h : post (b_kind, b_number, b_from, b_to, b_cond, b_nodes, b_flows, b_variables, b_on, b_in, zr_Z b_times (120 * i) 120, b_stored, b_clock, b_acts, b_reached)) :
    ∀ d x a, x + d = 120 → a = zr_Z b_times (120 * i) x → wY_empty_54 post (nI i) (d + 1) (nI x) b_kind b_number b_from b_to b_cond b_nodes b_flows b_variables b_on b_in a b_stored b_clock b_acts b_reached := by
  intro d
  induction d with
  | zero =>
    intro x a hx ea
    have : x = 120 := by omega
    subst this
    subst ea
    rw [wY_empty_54]
    exact br_t (nI_le (Nat.le_refl _) (by omega)) h
  | succ d ih =>
    intro x a hx ea
    subst ea
    have e : (120 * nI i + nI x : Int32) = nI (120 * i + x) := ix_m 120 i x
    rw [wY_empty_54]
    exact br_f (nI_ge (b := 120) (by omega) (by omega)) (And.intro (by rw [e]; exact vp_in_nI (by omega) (by omega)) (nm_r (e' := zr_Z b_times (120 * i) (x + 1)) (by rw [e, nI_clamp (by omega)]; exact zr_s) (nm_r (nI_1 _) (ih (x + 1) _ (by omega) rfl))))
theorem yl_e28 {post : SY → Prop} {i : Nat} {b_kind b_number b_from b_to b_cond b_nodes b_flows b_variables b_on b_in b_times b_stored b_clock b_acts b_reached : Nat → Int32} (hi : i < 3) (h : post (b_kind, b_number, b_from, b_to, b_cond, b_nodes, b_flows, b_variables, b_on, zr_Z b_in (12 * i) 12, zr_Z b_times (120 * i) 120, b_stored, b_clock, b_acts, b_reached)) :
    ∀ d x a, x + d = 12 → a = zr_Z b_in (12 * i) x → wY_empty_28 post (nI i) (d + 1) (nI x) b_kind b_number b_from b_to b_cond b_nodes b_flows b_variables b_on a b_times b_stored b_clock b_acts b_reached := by
  intro d
  induction d with
  | zero =>
    intro x a hx ea
    have : x = 12 := by omega
    subst this
    subst ea
    rw [wY_empty_28]
    exact br_t (nI_le (Nat.le_refl _) (by omega)) ⟨121, yl_e54 hi h 120 0 b_times (by omega) zr_0.symm⟩
  | succ d ih =>
    intro x a hx ea
    subst ea
    have e : (12 * nI i + nI x : Int32) = nI (12 * i + x) := ix_m 12 i x
    rw [wY_empty_28]
    exact br_f (nI_ge (b := 12) (by omega) (by omega)) (And.intro (by rw [e]; exact vp_in_nI (by omega) (by omega)) (nm_r (e' := zr_Z b_in (12 * i) (x + 1)) (by rw [e, nI_clamp (by omega)]; exact zr_s) (nm_r (nI_1 _) (ih (x + 1) _ (by omega) rfl))))
theorem yl_e2 {post : SY → Prop} {i : Nat} {b_kind b_number b_from b_to b_cond b_nodes b_flows b_variables b_on b_in b_times b_stored b_clock b_acts b_reached : Nat → Int32} (hi : i < 3) (h : post (b_kind, b_number, b_from, b_to, b_cond, b_nodes, b_flows, b_variables, zr_Z b_on (20 * i) 20, zr_Z b_in (12 * i) 12, zr_Z b_times (120 * i) 120, b_stored, b_clock, b_acts, b_reached)) :
    ∀ d x a, x + d = 20 → a = zr_Z b_on (20 * i) x → wY_empty_2 post (nI i) (d + 1) (nI x) b_kind b_number b_from b_to b_cond b_nodes b_flows b_variables a b_in b_times b_stored b_clock b_acts b_reached := by
  intro d
  induction d with
  | zero =>
    intro x a hx ea
    have : x = 20 := by omega
    subst this
    subst ea
    rw [wY_empty_2]
    exact br_t (nI_le (Nat.le_refl _) (by omega)) ⟨13, yl_e28 hi h 12 0 b_in (by omega) zr_0.symm⟩
  | succ d ih =>
    intro x a hx ea
    subst ea
    have e : (20 * nI i + nI x : Int32) = nI (20 * i + x) := ix_m 20 i x
    rw [wY_empty_2]
    exact br_f (nI_ge (b := 20) (by omega) (by omega)) (And.intro (by rw [e]; exact vp_in_nI (by omega) (by omega)) (nm_r (e' := zr_Z b_on (20 * i) (x + 1)) (by rw [e, nI_clamp (by omega)]; exact zr_s) (nm_r (nI_1 _) (ih (x + 1) _ (by omega) rfl))))
theorem yl_empty {post : SY → Prop} {N D : NT} {c j : DS} {i : Nat} {b_kind b_number b_from b_to b_cond b_nodes b_flows b_variables b_on b_in b_times b_stored b_clock b_acts b_reached : Nat → Int32} (R : yy_R N D c j (b_kind, b_number, b_from, b_to, b_cond, b_nodes, b_flows, b_variables, b_on, b_in, b_times, b_stored, b_clock, b_acts, b_reached)) (hi : i < 3) (h : ∀ v', yy_R N D (dc_emp c i) j v' → post v') : wpY_empty post (b_kind, b_number, b_from, b_to, b_cond, b_nodes, b_flows, b_variables, b_on, b_in, b_times, b_stored, b_clock, b_acts, b_reached) (nI i) := by
  obtain ⟨RD, RN, RS, RJ⟩ := R
  refine ⟨21, yl_e2 hi (h _ ⟨RD, RN, ⟨?_, ?_, ?_, RS.2.2.2⟩, yy_on (yy_in (yy_tm RJ (fun k hk => if_neg (by omega))) (fun k hk => if_neg (by omega))) (fun k hk => if_neg (by omega))⟩) 20 0 b_on (by omega) zr_0.symm⟩
  · intro k hk
    show (if 20 * i ≤ k ∧ k < 20 * i + 20 then 0 else b_on k) = nI (if 20 * i ≤ k ∧ k < 20 * i + 20 then 0 else ds_on c k)
    by_cases q : 20 * i ≤ k ∧ k < 20 * i + 20
    · rw [if_pos q, if_pos q]; rfl
    · rw [if_neg q, if_neg q]; exact RS.1 k hk
  · intro k hk
    show (if 12 * i ≤ k ∧ k < 12 * i + 12 then 0 else b_in k) = nI ((if 12 * i ≤ k ∧ k < 12 * i + 12 then 0 else ds_in c k) - ds_sm (dc_emp c i) k)
    by_cases q : 12 * i ≤ k ∧ k < 12 * i + 12
    · rw [if_pos q, if_pos q, Nat.zero_sub]; rfl
    · have e : ds_sm (dc_emp c i) k = ds_sm c k := by
        refine sm_eq 10 (fun t ht => ?_)
        show (if 120 * i ≤ 10 * k + t ∧ 10 * k + t < 120 * i + 120 then 0 else ds_tm c (10 * k + t)) = ds_tm c (10 * k + t)
        exact if_neg (by omega)
      rw [if_neg q, if_neg q, e]; exact RS.2.1 k hk
  · intro k hk
    show (if 120 * i ≤ k ∧ k < 120 * i + 120 then 0 else b_times k) = nI (if 120 * i ≤ k ∧ k < 120 * i + 120 then 0 else ds_tm c k)
    by_cases q : 120 * i ≤ k ∧ k < 120 * i + 120
    · rw [if_pos q, if_pos q]; rfl
    · rw [if_neg q, if_neg q]; exact RS.2.2.1 k hk
theorem yl_holds {post : Int32 → Prop} {N D : NT} {c j : DS} {i f : Nat} {b_kind b_number b_from b_to b_cond b_nodes b_flows b_variables b_on b_in b_times b_stored b_clock b_acts b_reached : Nat → Int32} (W : nt_D N) (R : yy_R N D c j (b_kind, b_number, b_from, b_to, b_cond, b_nodes, b_flows, b_variables, b_on, b_in, b_times, b_stored, b_clock, b_acts, b_reached)) (hi : i < 3) (hf : f < nt_f N) (h1 : ds_h N c i f = true → post 1) (h0 : ds_h N c i f = false → post 0) : wpY_holds post (b_kind, b_number, b_from, b_to, b_cond, b_nodes, b_flows, b_variables, b_on, b_in, b_times, b_stored, b_clock, b_acts, b_reached) (nI i) (nI f) := by
  obtain ⟨RD, RN, RS, RJ⟩ := R
  have W20 := W.2.1
  have vf : vp_in (nI f) 40 := vp_in_nI (by omega) (by omega)
  have kf : (nI f).toNatClampNeg = f := nI_clamp (by omega)
  have ew : b_cond (nI f).toNatClampNeg = nt_wh N f := by rw [kf]; exact RN.2.2.2.2.2.2 f hf
  refine And.intro vf ?_
  rw [ew]
  rcases ix_wh (W.2.2.2.2 f hf) with ⟨a, b⟩ | ⟨q, hq, a, b, d, e⟩
  · exact br_f b (h1 (by unfold ds_h; rw [if_pos a]))
  · have hh : ds_h N c i f = ds_hq q (ds_va c (3 * i + q % 3)) := by unfold ds_h; rw [if_neg d, e]
    have d3 : (nI q / 3 : Int32) = nI (q / 3) := pk_div (d := 3) (by omega) (by omega) (by omega)
    have r3 : (nI q - nI q / 3 * 3 : Int32) = nI (q % 3) := pk_rem (d := 3) (by omega) (by omega) (by omega)
    have r33 : ((nI q / 3) - (nI q / 3) / 3 * 3 : Int32) = nI (q / 3 % 3) := by rw [d3]; exact pk_rem (d := 3) (by omega) (by omega) (by omega)
    have d9 : (nI q / 9 : Int32) = nI (q / 9) := pk_div (d := 9) (by omega) (by omega) (by omega)
    have ex : (3 * nI i + (nI q - nI q / 3 * 3) : Int32) = nI (3 * i + q % 3) := by rw [r3]; exact ix_m 3 i (q % 3)
    have vx : vp_in (3 * nI i + (nI q - nI q / 3 * 3)) 18 := by rw [ex]; exact vp_in_nI (by omega) (by omega)
    have kx : (3 * nI i + (nI q - nI q / 3 * 3)).toNatClampNeg = 3 * i + q % 3 := by rw [ex]; exact nI_clamp (by omega)
    refine br_t b ?_
    rw [a]
    refine And.intro vf (And.intro ix_30 (And.intro vx (nm_r (e' := ds_va c (3 * i + q % 3)) (by rw [kx]; exact RS.2.2.2.1 _ (by omega)) (And.intro vf (And.intro ix_90 (nm_r d9 (And.intro vf (And.intro ix_30 (And.intro ix_30 (nm_r r33 ?_))))))))))
    exact ix_hb hh rfl rfl hq (fun z => ⟨⟨h1 z, h1 z⟩, h1 z⟩) (fun z => ⟨⟨h0 z, h0 z⟩, h0 z⟩)
end
section
/-! Y: spread, hinders, can -/
def zc_Z (r : Nat → Int32) (m : Nat) : Nat := sm_N (fun f => if r f = 0 then 1 else 0) m
theorem zc_eq {r s : Nat → Int32} {m : Nat} (h : ∀ f, f < m → r f = s f) : zc_Z r m = zc_Z s m := sm_eq m (fun k hk => by rw [h k hk])
theorem zc_upd {r : Nat → Int32} {f : Nat} (h : r f = 0) : ∀ m, f < m → zc_Z (upd r f 1) m + 1 = zc_Z r m := by
  intro m
  induction m with
  | zero => intro hf; omega
  | succ m ih =>
    intro hf
    show zc_Z (upd r f 1) m + (if upd r f 1 m = 0 then 1 else 0) + 1 = zc_Z r m + (if r m = 0 then 1 else 0)
    by_cases e : f = m
    · subst e
      rw [pk_us, if_neg ix_10, if_pos h, zc_eq (s := r) (fun k hk => pk_un (by omega))]
    · rw [pk_un (by omega)]
      have := ih (by omega)
      omega
theorem zc_le {r : Nat → Int32} : ∀ m, zc_Z r m ≤ m := by
  intro m
  induction m with
  | zero => exact Nat.le_refl _
  | succ m ih =>
    show zc_Z r m + (if r m = 0 then 1 else 0) ≤ m + 1
    by_cases e : r m = 0
    · rw [if_pos e]; omega
    · rw [if_neg e]; omega
theorem ix_nz0 : narrow .boolean (.int 0) = .int 0 := by rfl
theorem ix_nz1 : narrow .boolean (.int 1) = .int 1 := by rfl
theorem yl_spb {post : Int32 → SY → Prop} {N : NT} {n : Nat} {r0 : Nat → Int32} {b_kind b_number b_from b_to b_cond b_nodes b_flows b_variables b_on b_in b_times b_stored b_clock b_acts : Nat → Int32} (W : nt_D N) (RN : xx_D N (b_nodes 0) (b_flows 0) b_kind b_number b_from b_to b_cond) (hn : n < 12)
    (h1 : ∀ r', (∀ f, f < nt_f N → r0 f ≠ 0 → r' f ≠ 0) → (∀ f, f < nt_f N → r' f ≠ 0 → r0 f ≠ 0 ∨ nt_fr N f = n) → zc_Z r' (nt_f N) < zc_Z r0 (nt_f N) → post 1 (b_kind, b_number, b_from, b_to, b_cond, b_nodes, b_flows, b_variables, b_on, b_in, b_times, b_stored, b_clock, b_acts, r')) :
    ∀ d f r, f + d = nt_f N → (∀ f, f < nt_f N → r0 f ≠ 0 → r f ≠ 0) → (∀ f, f < nt_f N → r f ≠ 0 → r0 f ≠ 0 ∨ nt_fr N f = n) → zc_Z r (nt_f N) < zc_Z r0 (nt_f N) → wY_spread_4 post (nI n) (d + 1) 1 (nI f) b_kind b_number b_from b_to b_cond b_nodes b_flows b_variables b_on b_in b_times b_stored b_clock b_acts r := by
  have W20 := W.2.1
  have W12 := W.1
  intro d
  induction d with
  | zero =>
    intro f r hd a1 a2 a3
    rw [wY_spread_4]
    exact br_t (by rw [RN.2.1]; exact nI_le (by omega) (by omega)) (And.intro ix_nz1 (h1 r a1 a2 a3))
  | succ d ih =>
    intro f r hd a1 a2 a3
    have kf : (nI f).toNatClampNeg = f := nI_clamp (by omega)
    have ef : b_from (nI f).toNatClampNeg = nI (nt_fr N f) := by rw [kf]; exact RN.2.2.2.2.1 f (by omega)
    have hff := (W.2.2.1 f (by omega)).1
    have vf : vp_in (nI f) 20 := vp_in_nI (by omega) (by omega)
    rw [wY_spread_4]
    refine br_f (by rw [RN.2.1]; exact nI_ge (by omega) (by omega)) (And.intro (vp_in_nI (by omega) (by omega)) (pk_eq (nt_fr N f) n (fun e => And.intro vf (br_c (fun z => And.intro vf (nm_r (e' := upd r f 1) (by rw [kf, ix_nb1]) (nm_r (nI_1 f) (ih (f + 1) _ (by omega) ?_ ?_ ?_)))) (fun z => nm_r (nI_1 f) (ih (f + 1) r (by omega) a1 a2 a3)))) (fun e => nm_r (nI_1 f) (ih (f + 1) r (by omega) a1 a2 a3)) ef rfl))
    · intro f' h1 h2
      by_cases q : f' = f
      · subst q; rw [pk_us]; exact ix_10
      · rw [pk_un q]; exact a1 f' h1 h2
    · intro f' h1 h2
      by_cases q : f' = f
      · subst q; exact Or.inr e
      · rw [pk_un q] at h2; exact a2 f' h1 h2
    · rw [kf] at z
      have := zc_upd z (nt_f N) (by omega)
      omega
theorem yl_spa {post : Int32 → SY → Prop} {N : NT} {n : Nat} {r0 : Nat → Int32} {b_kind b_number b_from b_to b_cond b_nodes b_flows b_variables b_on b_in b_times b_stored b_clock b_acts : Nat → Int32} (W : nt_D N) (RN : xx_D N (b_nodes 0) (b_flows 0) b_kind b_number b_from b_to b_cond) (hn : n < 12)
    (h0 : (∀ f, f < nt_f N → nt_fr N f = n → r0 f ≠ 0) → post 0 (b_kind, b_number, b_from, b_to, b_cond, b_nodes, b_flows, b_variables, b_on, b_in, b_times, b_stored, b_clock, b_acts, r0))
    (h1 : ∀ r', (∀ f, f < nt_f N → r0 f ≠ 0 → r' f ≠ 0) → (∀ f, f < nt_f N → r' f ≠ 0 → r0 f ≠ 0 ∨ nt_fr N f = n) → zc_Z r' (nt_f N) < zc_Z r0 (nt_f N) → post 1 (b_kind, b_number, b_from, b_to, b_cond, b_nodes, b_flows, b_variables, b_on, b_in, b_times, b_stored, b_clock, b_acts, r')) :
    ∀ d f, f + d = nt_f N → (∀ f', f' < f → nt_fr N f' = n → r0 f' ≠ 0) → wY_spread_4 post (nI n) (d + 1) 0 (nI f) b_kind b_number b_from b_to b_cond b_nodes b_flows b_variables b_on b_in b_times b_stored b_clock b_acts r0 := by
  have W20 := W.2.1
  have W12 := W.1
  intro d
  induction d with
  | zero =>
    intro f hd a1
    rw [wY_spread_4]
    exact br_t (by rw [RN.2.1]; exact nI_le (by omega) (by omega)) (And.intro ix_nz0 (h0 (fun f' h => a1 f' (by omega))))
  | succ d ih =>
    intro f hd a1
    have kf : (nI f).toNatClampNeg = f := nI_clamp (by omega)
    have ef : b_from (nI f).toNatClampNeg = nI (nt_fr N f) := by rw [kf]; exact RN.2.2.2.2.1 f (by omega)
    have hff := (W.2.2.1 f (by omega)).1
    have vf : vp_in (nI f) 20 := vp_in_nI (by omega) (by omega)
    rw [wY_spread_4]
    refine br_f (by rw [RN.2.1]; exact nI_ge (by omega) (by omega)) (And.intro (vp_in_nI (by omega) (by omega)) (pk_eq (nt_fr N f) n (fun e => And.intro vf (br_c (fun z => And.intro vf (nm_r (e' := upd r0 f 1) (by rw [kf, ix_nb1]) (nm_r (nI_1 f) (yl_spb W RN hn h1 d (f + 1) _ (by omega) ?_ ?_ ?_)))) (fun z => nm_r (nI_1 f) (ih (f + 1) (by omega) ?_)))) (fun e => nm_r (nI_1 f) (ih (f + 1) (by omega) ?_)) ef rfl))
    · intro f' h1 h2
      by_cases q : f' = f
      · subst q; rw [pk_us]; exact ix_10
      · rw [pk_un q]; exact h2
    · intro f' h1 h2
      by_cases q : f' = f
      · subst q; exact Or.inr e
      · rw [pk_un q] at h2; exact Or.inl h2
    · rw [kf] at z
      have := zc_upd z (nt_f N) (by omega)
      omega
    · intro f' h1 h2
      by_cases q : f' = f
      · subst q; rw [kf] at z; exact z
      · exact a1 f' (by omega) h2
    · intro f' h1 h2
      by_cases q : f' = f
      · subst q; exact absurd h2 e
      · exact a1 f' (by omega) h2
/-- the reached flows, as far as the search has come -/
def yy_In (N : NT) (g s : Nat) (r : Nat → Int32) : Prop := (∀ f, f < nt_f N → nt_fr N f = s → r f ≠ 0) ∧ ∀ f, f < nt_f N → r f ≠ 0 → nt_P N g s f
theorem yl_hi57 {post : Int32 → SY → Prop} {J : Int32 → (Nat → Int32) → (Nat → Int32) → (Nat → Int32) → (Nat → Int32) → (Nat → Int32) → (Nat → Int32) → (Nat → Int32) → (Nat → Int32) → (Nat → Int32) → (Nat → Int32) → (Nat → Int32) → (Nat → Int32) → (Nat → Int32) → (Nat → Int32) → (Nat → Int32) → Prop} {N : NT} {x1 : Int32} {g s : Nat} {r0 : Nat → Int32} {b_kind b_number b_from b_to b_cond b_nodes b_flows b_variables b_on b_in b_times b_stored b_clock b_acts : Nat → Int32} (W : nt_D N) (RN : xx_D N (b_nodes 0) (b_flows 0) b_kind b_number b_from b_to b_cond) (hg : g < 12)
    (h0 : (∀ f, f < nt_f N → r0 f ≠ 0 → nt_to N f ≠ g → ∀ e, e < nt_f N → nt_fr N e = nt_to N f → r0 e ≠ 0) → J 0 b_kind b_number b_from b_to b_cond b_nodes b_flows b_variables b_on b_in b_times b_stored b_clock b_acts r0)
    (h1 : ∀ r, yy_In N g s r → zc_Z r (nt_f N) < zc_Z r0 (nt_f N) → J 1 b_kind b_number b_from b_to b_cond b_nodes b_flows b_variables b_on b_in b_times b_stored b_clock b_acts r) :
    ∀ d f x r, f + d = nt_f N → yy_In N g s r → ((x = 0 ∧ r = r0 ∧ (∀ f', f' < f → r0 f' ≠ 0 → nt_to N f' ≠ g → ∀ e, e < nt_f N → nt_fr N e = nt_to N f' → r0 e ≠ 0)) ∨ (x = 1 ∧ zc_Z r (nt_f N) < zc_Z r0 (nt_f N))) → wY_hinders_57 post J x1 (nI g) (d + 1) x (nI f) b_kind b_number b_from b_to b_cond b_nodes b_flows b_variables b_on b_in b_times b_stored b_clock b_acts r := by
  have W20 := W.2.1
  have W12 := W.1
  intro d
  induction d with
  | zero =>
    intro f x r hd a1 a2
    rw [wY_hinders_57]
    refine br_t (by rw [RN.2.1]; exact nI_le (by omega) (by omega)) ?_
    rcases a2 with ⟨rfl, rfl, a2⟩ | ⟨rfl, a2⟩
    · exact h0 (fun f' hf' => a2 f' (by omega))
    · exact h1 r a1 a2
  | succ d ih =>
    intro f x r hd a1 a2
    have kf : (nI f).toNatClampNeg = f := nI_clamp (by omega)
    have et : b_to (nI f).toNatClampNeg = nI (nt_to N f) := by rw [kf]; exact RN.2.2.2.2.2.1 f (by omega)
    have hff := (W.2.2.1 f (by omega)).2
    have vf : vp_in (nI f) 20 := vp_in_nI (by omega) (by omega)
    have vf4 : vp_in (nI f) 40 := vp_in_nI (by omega) (by omega)
    have nx : (r f ≠ 0 → nt_to N f ≠ g → ∀ e, e < nt_f N → nt_fr N e = nt_to N f → r e ≠ 0) → ((x = 0 ∧ r = r0 ∧ (∀ f', f' < f + 1 → r0 f' ≠ 0 → nt_to N f' ≠ g → ∀ e, e < nt_f N → nt_fr N e = nt_to N f' → r0 e ≠ 0)) ∨ (x = 1 ∧ zc_Z r (nt_f N) < zc_Z r0 (nt_f N))) := by
      intro q
      rcases a2 with ⟨e1, rfl, a2⟩ | a2
      · refine Or.inl ⟨e1, rfl, fun f' h1 => ?_⟩
        by_cases z : f' = f
        · subst z; exact q
        · exact a2 f' (by omega)
      · exact Or.inr a2
    rw [wY_hinders_57]
    refine br_f (by rw [RN.2.1]; exact nI_ge (by omega) (by omega)) (And.intro vf (br_c (fun z => nm_r (nI_1 f) (ih (f + 1) x r (by omega) a1 (nx (fun w => absurd (by rw [kf] at z; exact z) w)))) (fun z => And.intro vf4 (pk_eq (nt_to N f) g (fun e => nm_r (nI_1 f) (ih (f + 1) x r (by omega) a1 (nx (fun _ w => absurd e w)))) (fun e => And.intro vf4 ?_) et rfl))))
    rw [kf] at z
    rw [et]
    refine ⟨nt_f N + 1, yl_spa (n := nt_to N f) (r0 := r) W RN (by omega) (fun q => br_t rfl (nm_r (nI_1 f) (ih (f + 1) x r (by omega) a1 (nx (fun _ _ => q))))) (fun r' q1 q2 q3 => br_f ix_10 (nm_r (nI_1 f) (ih (f + 1) 1 r' (by omega) ⟨fun f' a b => q1 f' a (a1.1 f' a b), fun f' a b => ?_⟩ (Or.inr ⟨rfl, ?_⟩)))) (nt_f N) 0 (by omega) (fun f' h => by omega)⟩
    · rcases q2 f' a b with w | w
      · exact a1.2 f' a w
      · exact nt_P1 (by omega) (a1.2 f (by omega) z) e a w
    · rcases a2 with ⟨_, rfl, _⟩ | ⟨_, a2⟩
      · exact q3
      · omega
theorem yl_hi121 {post : Int32 → SY → Prop} {N D : NT} {B : Nat} {c j : DS} {i g s : Nat} {r : Nat → Int32} {b_kind b_number b_from b_to b_cond b_nodes b_flows b_variables b_on b_in b_times b_stored b_clock b_acts b_reached : Nat → Int32} (W : nt_D N) (I : ic_C N B c) (hB : B < 2 ^ 31) (R : yy_R N D c j (b_kind, b_number, b_from, b_to, b_cond, b_nodes, b_flows, b_variables, b_on, b_in, b_times, b_stored, b_clock, b_acts, b_reached)) (hi : i < 3) (hg : g < 12) (hr : ∀ f, f < nt_f N → (r f ≠ 0 ↔ nt_P N g s f))
    (h1 : nt_H N (ds_P c i) g s → post 1 (b_kind, b_number, b_from, b_to, b_cond, b_nodes, b_flows, b_variables, b_on, b_in, b_times, b_stored, b_clock, b_acts, r)) (h0 : ¬ nt_H N (ds_P c i) g s → post 0 (b_kind, b_number, b_from, b_to, b_cond, b_nodes, b_flows, b_variables, b_on, b_in, b_times, b_stored, b_clock, b_acts, r)) :
    ∀ d f x, f + d = nt_f N → ((x = 0 ∧ ∀ f', f' < f → nt_to N f' = g → ¬ nt_P N g s f') ∨ (x = 1 ∧ (∃ f', f' < f ∧ nt_to N f' = g ∧ nt_P N g s f') ∧ ∀ f', f' < f → nt_to N f' = g → nt_P N g s f' → ¬ ds_P c i f')) → wY_hinders_121 post (nI i) (nI g) b_kind b_number b_from b_to b_cond b_nodes b_flows b_variables b_on b_in b_times b_stored b_clock b_acts r (d + 1) x (nI f) := by
  have W20 := W.2.1
  have W12 := W.1
  obtain ⟨RD, RN, RS, RJ⟩ := R
  intro d
  induction d with
  | zero =>
    intro f x hd a
    rw [wY_hinders_121]
    refine br_t (by rw [RN.2.1]; exact nI_le (by omega) (by omega)) ?_
    rcases a with ⟨rfl, a⟩ | ⟨rfl, ⟨f', a1, a2, a3⟩, b⟩
    · exact And.intro ix_nz0 (h0 (fun ⟨⟨f', q1, q2, q3⟩, _⟩ => a f' (by omega) q2 q3))
    · exact And.intro ix_nz1 (h1 ⟨⟨f', by omega, a2, a3⟩, fun e he => b e (by omega)⟩)
  | succ d ih =>
    intro f x hd a
    have kf : (nI f).toNatClampNeg = f := nI_clamp (by omega)
    have et : b_to (nI f).toNatClampNeg = nI (nt_to N f) := by rw [kf]; exact RN.2.2.2.2.2.1 f (by omega)
    have hff := (W.2.2.1 f (by omega)).2
    have vf : vp_in (nI f) 20 := vp_in_nI (by omega) (by omega)
    have vf4 : vp_in (nI f) 40 := vp_in_nI (by omega) (by omega)
    have ex : (20 * nI i + nI f : Int32) = nI (20 * i + f) := ix_m 20 i f
    have b2 := ic_on I hi (show f < 20 by omega)
    have nx : ¬ (nt_to N f = g ∧ nt_P N g s f) → ((x = 0 ∧ ∀ f', f' < f + 1 → nt_to N f' = g → ¬ nt_P N g s f') ∨ (x = 1 ∧ (∃ f', f' < f + 1 ∧ nt_to N f' = g ∧ nt_P N g s f') ∧ ∀ f', f' < f + 1 → nt_to N f' = g → nt_P N g s f' → ¬ ds_P c i f')) := by
      intro q
      rcases a with ⟨e, a⟩ | ⟨e, ⟨f', a1, a2, a3⟩, b⟩
      · refine Or.inl ⟨e, fun f' h1 h2 h3 => ?_⟩
        by_cases z : f' = f
        · subst z; exact q ⟨h2, h3⟩
        · exact a f' (by omega) h2 h3
      · refine Or.inr ⟨e, ⟨f', by omega, a2, a3⟩, fun f' h1 h2 h3 => ?_⟩
        by_cases z : f' = f
        · subst z; exact absurd ⟨h2, h3⟩ q
        · exact b f' (by omega) h2 h3
    rw [wY_hinders_121]
    refine br_f (by rw [RN.2.1]; exact nI_ge (by omega) (by omega)) (And.intro vf (br_c (fun z => nm_r (nI_1 f) (ih (f + 1) x (by omega) (nx ?_))) (fun z => And.intro vf4 (pk_eq (nt_to N f) g (fun e => And.intro (by rw [ex]; exact vp_in_nI (by omega) (by omega)) (pk_le (ds_on c (20 * i + f)) 0 (fun q => nm_r (nI_1 f) (ih (f + 1) 1 (by omega) (Or.inr ⟨rfl, ⟨f, by omega, e, ?_⟩, fun f' h1 h2 h3 => ?_⟩))) (fun q => h0 ?_) ?_)) (fun e => nm_r (nI_1 f) (ih (f + 1) x (by omega) (nx (fun w => e w.1)))) et rfl))))
    · rintro ⟨_, w⟩
      rw [kf] at z
      exact (hr f (by omega)).mpr w z
    · rw [kf] at z
      exact (hr f (by omega)).mp z
    · by_cases z : f' = f
      · subst z; unfold ds_P; omega
      · rcases a with ⟨_, a⟩ | ⟨_, _, b⟩
        · exact absurd h3 (a f' (by omega) h2)
        · exact b f' (by omega) h2 h3
    · rintro ⟨_, w⟩
      rw [kf] at z
      exact w f (by omega) e ((hr f (by omega)).mp z) q
    · rw [ex, nI_clamp (by omega)]; exact RS.1 _ (by omega)
theorem yl_hi46 {post : Int32 → SY → Prop} {N D : NT} {B : Nat} {c j : DS} {i g s : Nat} {b_kind b_number b_from b_to b_cond b_nodes b_flows b_variables b_on b_in b_times b_stored b_clock b_acts b_reached : Nat → Int32} (W : nt_D N) (I : ic_C N B c) (hB : B < 2 ^ 31) (R : yy_R N D c j (b_kind, b_number, b_from, b_to, b_cond, b_nodes, b_flows, b_variables, b_on, b_in, b_times, b_stored, b_clock, b_acts, b_reached)) (hi : i < 3) (hg : g < 12)
    (h1 : nt_H N (ds_P c i) g s → ∀ r, post 1 (b_kind, b_number, b_from, b_to, b_cond, b_nodes, b_flows, b_variables, b_on, b_in, b_times, b_stored, b_clock, b_acts, r)) (h0 : ¬ nt_H N (ds_P c i) g s → ∀ r, post 0 (b_kind, b_number, b_from, b_to, b_cond, b_nodes, b_flows, b_variables, b_on, b_in, b_times, b_stored, b_clock, b_acts, r)) :
    ∀ n r, yy_In N g s r → zc_Z r (nt_f N) + 2 ≤ n → wY_hinders_46 post (nI i) (nI g) n 1 b_kind b_number b_from b_to b_cond b_nodes b_flows b_variables b_on b_in b_times b_stored b_clock b_acts r := by
  intro n
  induction n with
  | zero => intro r _ hn; omega
  | succ n ih =>
    intro r hr hn
    obtain ⟨m, rfl⟩ : ∃ m, n = m + 1 := ⟨n - 1, by omega⟩
    rw [wY_hinders_46]
    refine br_f ix_10 ⟨nt_f N + 1, yl_hi57 (r0 := r) (s := s) W R.2.1 hg (fun q => ?_) (fun r' a b => ih r' a (by omega)) (nt_f N) 0 0 r (by omega) hr (Or.inl ⟨rfl, rfl, fun f' h => by omega⟩)⟩
    rw [wY_hinders_46]
    refine br_t rfl ⟨nt_f N + 1, yl_hi121 (s := s) W I hB R hi hg (fun f hf => ⟨hr.2 f hf, fun p => ?_⟩) (fun z => h1 z r) (fun z => h0 z r) (nt_f N) 0 0 (by omega) (Or.inl ⟨rfl, fun f' h => by omega⟩)⟩
    exact (p (fun f => f < nt_f N → r f ≠ 0) (fun f hf e _ => hr.1 f hf e) (fun f hf a b e he h2 _ => q f hf (a hf) b e he h2)) hf
theorem yl_hi3 {post : Int32 → SY → Prop} {N D : NT} {B : Nat} {c j : DS} {i g s : Nat} {b_kind b_number b_from b_to b_cond b_nodes b_flows b_variables b_on b_in b_times b_stored b_clock b_acts b_reached : Nat → Int32} (W : nt_D N) (I : ic_C N B c) (hB : B < 2 ^ 31) (R : yy_R N D c j (b_kind, b_number, b_from, b_to, b_cond, b_nodes, b_flows, b_variables, b_on, b_in, b_times, b_stored, b_clock, b_acts, b_reached)) (hi : i < 3) (hg : g < 12) (hs : s < 12)
    (h1 : nt_H N (ds_P c i) g s → ∀ r, post 1 (b_kind, b_number, b_from, b_to, b_cond, b_nodes, b_flows, b_variables, b_on, b_in, b_times, b_stored, b_clock, b_acts, r)) (h0 : ¬ nt_H N (ds_P c i) g s → ∀ r, post 0 (b_kind, b_number, b_from, b_to, b_cond, b_nodes, b_flows, b_variables, b_on, b_in, b_times, b_stored, b_clock, b_acts, r)) :
    ∀ d f r, f + d = nt_f N → (∀ f', f' < f → (r f' ≠ 0 ↔ nt_fr N f' = s)) → wY_hinders_3 post (nI i) (nI s) (nI g) (d + 1) (nI f) b_kind b_number b_from b_to b_cond b_nodes b_flows b_variables b_on b_in b_times b_stored b_clock b_acts r := by
  have W20 := W.2.1
  have W12 := W.1
  have RN := R.2.1
  intro d
  induction d with
  | zero =>
    intro f r hd a
    rw [wY_hinders_3]
    exact br_t (by rw [RN.2.1]; exact nI_le (by omega) (by omega)) ⟨22, yl_hi46 (s := s) W I hB R hi hg h1 h0 22 r ⟨fun f' h e => (a f' (by omega)).mpr e, fun f' h e => nt_P0 h ((a f' (by omega)).mp e)⟩ (by have := zc_le (r := r) (nt_f N); omega)⟩
  | succ d ih =>
    intro f r hd a
    have kf : (nI f).toNatClampNeg = f := nI_clamp (by omega)
    have ef : b_from (nI f).toNatClampNeg = nI (nt_fr N f) := by rw [kf]; exact RN.2.2.2.2.1 f (by omega)
    have hff := (W.2.2.1 f (by omega)).1
    have vf : vp_in (nI f) 20 := vp_in_nI (by omega) (by omega)
    rw [wY_hinders_3]
    refine br_f (by rw [RN.2.1]; exact nI_ge (by omega) (by omega)) (And.intro (vp_in_nI (by omega) (by omega)) (pk_eq (nt_fr N f) s (fun e => And.intro vf (nm_r (e' := upd r f 1) (by rw [kf, ix_nb1]) (nm_r (nI_1 f) (ih (f + 1) _ (by omega) (fun f' h => ?_))))) (fun e => And.intro vf (nm_r (e' := upd r f 0) (by rw [kf, ix_nb0]) (nm_r (nI_1 f) (ih (f + 1) _ (by omega) (fun f' h => ?_))))) ef rfl))
    · by_cases q : f' = f
      · subst q; rw [pk_us]; exact ⟨fun _ => e, fun _ => ix_10⟩
      · rw [pk_un q]; exact a f' (by omega)
    · by_cases q : f' = f
      · subst q; rw [pk_us]; exact ⟨fun w => absurd rfl w, fun w => absurd w e⟩
      · rw [pk_un q]; exact a f' (by omega)
theorem yl_hinders {post : Int32 → SY → Prop} {N D : NT} {B : Nat} {c j : DS} {i g s : Nat} {b_kind b_number b_from b_to b_cond b_nodes b_flows b_variables b_on b_in b_times b_stored b_clock b_acts b_reached : Nat → Int32} (W : nt_D N) (I : ic_C N B c) (hB : B < 2 ^ 31) (R : yy_R N D c j (b_kind, b_number, b_from, b_to, b_cond, b_nodes, b_flows, b_variables, b_on, b_in, b_times, b_stored, b_clock, b_acts, b_reached)) (hi : i < 3) (hg : g < 12) (hs : s < 12)
    (h1 : nt_H N (ds_P c i) g s → ∀ r, post 1 (b_kind, b_number, b_from, b_to, b_cond, b_nodes, b_flows, b_variables, b_on, b_in, b_times, b_stored, b_clock, b_acts, r)) (h0 : ¬ nt_H N (ds_P c i) g s → ∀ r, post 0 (b_kind, b_number, b_from, b_to, b_cond, b_nodes, b_flows, b_variables, b_on, b_in, b_times, b_stored, b_clock, b_acts, r)) : wpY_hinders post (b_kind, b_number, b_from, b_to, b_cond, b_nodes, b_flows, b_variables, b_on, b_in, b_times, b_stored, b_clock, b_acts, b_reached) (nI i) (nI s) (nI g) :=
  ⟨nt_f N + 1, yl_hi3 W I hB R hi hg hs h1 h0 (nt_f N) 0 b_reached (by omega) (fun f' h => by omega)⟩
theorem yl_ca179 {post : Int32 → SY → Prop} {N D : NT} {B : Nat} {c j : DS} {i g : Nat} {b_kind b_number b_from b_to b_cond b_nodes b_flows b_variables b_on b_in b_times b_stored b_clock b_acts b_reached : Nat → Int32} (W : nt_W N) (I : ic_C N B c) (hB : B < 2 ^ 31) (R : yy_R N D c j (b_kind, b_number, b_from, b_to, b_cond, b_nodes, b_flows, b_variables, b_on, b_in, b_times, b_stored, b_clock, b_acts, b_reached)) (hi : i < 3) (hg : g < 12)
    (h1 : (¬ ∃ m, m < nt_n N ∧ ds_Q c i m ∧ nt_H N (ds_P c i) g m) → ∀ r, post 1 (b_kind, b_number, b_from, b_to, b_cond, b_nodes, b_flows, b_variables, b_on, b_in, b_times, b_stored, b_clock, b_acts, r)) (h0 : (∃ m, m < nt_n N ∧ ds_Q c i m ∧ nt_H N (ds_P c i) g m) → ∀ r, post 0 (b_kind, b_number, b_from, b_to, b_cond, b_nodes, b_flows, b_variables, b_on, b_in, b_times, b_stored, b_clock, b_acts, r)) :
    ∀ d m r, m + d = nt_n N → (∀ m', m' < m → ds_Q c i m' → ¬ nt_H N (ds_P c i) g m') → wY_can_179 post (nI i) (nI g) (d + 1) (nI m) b_kind b_number b_from b_to b_cond b_nodes b_flows b_variables b_on b_in b_times b_stored b_clock b_acts r := by
  have W12 := W.1.1
  have RN := R.2.1
  intro d
  induction d with
  | zero =>
    intro m r hd a
    rw [wY_can_179]
    exact br_t (by rw [RN.1]; exact nI_le (by omega) (by omega)) (h1 (fun ⟨m', q1, q2, q3⟩ => a m' (by omega) q2 q3) r)
  | succ d ih =>
    intro m r hd a
    have b := ic_in W I hi (show m < 12 by omega)
    have R' : yy_R N D c j (b_kind, b_number, b_from, b_to, b_cond, b_nodes, b_flows, b_variables, b_on, b_in, b_times, b_stored, b_clock, b_acts, r) := R
    rw [wY_can_179]
    refine br_f (by rw [RN.1]; exact nI_ge (by omega) (by omega)) (yl_insideOf I R' hi (by omega) (pk_le (ds_in c (12 * i + m)) 0 (fun q => nm_r (nI_1 m) (ih (m + 1) r (by omega) (fun m' h1 h2 => ?_))) (fun q => yl_hinders W.1 I hB R' hi hg (by omega) (fun z r' => br_f ix_10 (h0 ⟨m, by omega, q, z⟩ r')) (fun z r' => br_t rfl (nm_r (nI_1 m) (ih (m + 1) r' (by omega) (fun m' h1 h2 => ?_)))))))
    · by_cases e : m' = m
      · subst e; unfold ds_Q at h2; omega
      · exact a m' (by omega) h2
    · by_cases e : m' = m
      · subst e; exact z
      · exact a m' (by omega) h2
theorem yl_ca115 {post : Int32 → SY → Prop} {N D : NT} {B : Nat} {c j : DS} {i g : Nat} {b_kind b_number b_from b_to b_cond b_nodes b_flows b_variables b_on b_in b_times b_stored b_clock b_acts b_reached : Nat → Int32} (W : nt_W N) (I : ic_C N B c) (hB : B < 2 ^ 31) (R : yy_R N D c j (b_kind, b_number, b_from, b_to, b_cond, b_nodes, b_flows, b_variables, b_on, b_in, b_times, b_stored, b_clock, b_acts, b_reached)) (hi : i < 3) (hg : g < 12)
    (h1 : (¬ nt_Hd N (ds_P c i) (ds_Q c i) g) → ∀ r, post 1 (b_kind, b_number, b_from, b_to, b_cond, b_nodes, b_flows, b_variables, b_on, b_in, b_times, b_stored, b_clock, b_acts, r)) (h0 : nt_Hd N (ds_P c i) (ds_Q c i) g → ∀ r, post 0 (b_kind, b_number, b_from, b_to, b_cond, b_nodes, b_flows, b_variables, b_on, b_in, b_times, b_stored, b_clock, b_acts, r)) :
    ∀ d f r, f + d = nt_f N → (∀ f', f' < f → ds_P c i f' → nt_to N f' ≠ g → ¬ nt_H N (ds_P c i) g (nt_to N f')) → wY_can_115 post (nI i) (nI g) (d + 1) (nI f) b_kind b_number b_from b_to b_cond b_nodes b_flows b_variables b_on b_in b_times b_stored b_clock b_acts r := by
  have W12 := W.1.1
  have W20 := W.1.2.1
  have RN := R.2.1
  intro d
  induction d with
  | zero =>
    intro f r hd a
    rw [wY_can_115]
    refine br_t (by rw [RN.2.1]; exact nI_le (by omega) (by omega)) ⟨nt_n N + 1, yl_ca179 W I hB R hi hg (fun q => h1 ?_) (fun q => h0 (Or.inr q)) (nt_n N) 0 r (by omega) (fun m' h => by omega)⟩
    rintro (⟨f', q1, q2, q3, q4⟩ | w)
    · exact a f' (by omega) q2 q3 q4
    · exact q w
  | succ d ih =>
    intro f r hd a
    have kf : (nI f).toNatClampNeg = f := nI_clamp (by omega)
    have et : b_to (nI f).toNatClampNeg = nI (nt_to N f) := by rw [kf]; exact RN.2.2.2.2.2.1 f (by omega)
    have hff := (W.1.2.2.1 f (by omega)).2
    have vf4 : vp_in (nI f) 40 := vp_in_nI (by omega) (by omega)
    have ex : (20 * nI i + nI f : Int32) = nI (20 * i + f) := ix_m 20 i f
    have b2 := ic_on I hi (show f < 20 by omega)
    have R' : yy_R N D c j (b_kind, b_number, b_from, b_to, b_cond, b_nodes, b_flows, b_variables, b_on, b_in, b_times, b_stored, b_clock, b_acts, r) := R
    rw [wY_can_115]
    refine br_f (by rw [RN.2.1]; exact nI_ge (by omega) (by omega)) (And.intro (by rw [ex]; exact vp_in_nI (by omega) (by omega)) (pk_le (ds_on c (20 * i + f)) 0 (fun q => nm_r (nI_1 f) (ih (f + 1) r (by omega) (fun f' h1 h2 => ?_))) (fun q => And.intro vf4 (pk_eq (nt_to N f) g (fun e => nm_r (nI_1 f) (ih (f + 1) r (by omega) (fun f' h1 h2 => ?_))) (fun e => And.intro vf4 ?_) et rfl)) ?_))
    · by_cases z : f' = f
      · subst z; unfold ds_P at h2; omega
      · exact a f' (by omega) h2
    · by_cases z : f' = f
      · subst z; exact fun w => absurd e w
      · exact a f' (by omega) h2
    · rw [et]
      refine yl_hinders W.1 I hB R' hi hg (by omega) (fun z r' => br_f ix_10 (h0 (Or.inl ⟨f, by omega, q, e, z⟩) r')) (fun z r' => br_t rfl (nm_r (nI_1 f) (ih (f + 1) r' (by omega) (fun f' h1 h2 => ?_))))
      by_cases w : f' = f
      · subst w; exact fun _ => z
      · exact a f' (by omega) h2
    · rw [ex, nI_clamp (by omega)]; exact R.2.2.1.1 _ (by omega)
theorem yl_ca8 {post : Int32 → SY → Prop} {N D : NT} {B : Nat} {c j : DS} {i n : Nat} {b_kind b_number b_from b_to b_cond b_nodes b_flows b_variables b_on b_in b_times b_stored b_clock b_acts b_reached : Nat → Int32} (W : nt_W N) (I : ic_C N B c) (hB : B < 2 ^ 31) (R : yy_R N D c j (b_kind, b_number, b_from, b_to, b_cond, b_nodes, b_flows, b_variables, b_on, b_in, b_times, b_stored, b_clock, b_acts, b_reached)) (hi : i < 3) (hn : n < nt_n N)
    (h1 : ds_Can N c i n → ∀ r, post 1 (b_kind, b_number, b_from, b_to, b_cond, b_nodes, b_flows, b_variables, b_on, b_in, b_times, b_stored, b_clock, b_acts, r)) (h0 : ¬ ds_Can N c i n → ∀ r, post 0 (b_kind, b_number, b_from, b_to, b_cond, b_nodes, b_flows, b_variables, b_on, b_in, b_times, b_stored, b_clock, b_acts, r)) :
    ∀ d f a b, f + d = nt_f N → a ≤ f → b ≤ f → (0 < a ↔ ∃ f', f' < f ∧ nt_to N f' = n ∧ ds_P c i f') → (0 < b ↔ ∃ f', f' < f ∧ nt_to N f' = n ∧ ¬ ds_P c i f') → wY_can_8 post (nI i) (nI n) b_kind b_number b_from b_to b_cond b_nodes b_flows b_variables b_on b_in b_times b_stored b_clock b_acts b_reached (d + 1) (nI a) (nI b) (nI f) := by
  have W12 := W.1.1
  have W20 := W.1.2.1
  have RN := R.2.1
  have vn : vp_in (nI n) 24 := vp_in_nI (by omega) (by omega)
  have kn : (nI n).toNatClampNeg = n := nI_clamp (by omega)
  have ek : b_kind (nI n).toNatClampNeg = nI (nt_ki N n) := by rw [kn]; exact RN.2.2.1 n hn
  have kb := (W.1.2.2.2.1 n hn).1
  intro d
  induction d with
  | zero =>
    intro f a b hd ha hb pa pb
    have ef : f = nt_f N := by omega
    subst ef
    rw [wY_can_8]
    refine br_t (by rw [RN.2.1]; exact nI_le (by omega) (by omega)) (And.intro vn (pk_eq (nt_ki N n) 4 (fun k4 => pk_le a 0 (fun q => h0 (fun z => ?_) b_reached) (fun q => pk_eq b 0 (fun q2 => h1 ⟨pa.mp q, fun _ f' hf' e => ?_, fun k5 => by omega⟩ b_reached) (fun q2 => h0 (fun z => ?_) b_reached))) (fun k4 => And.intro vn (pk_eq (nt_ki N n) 5 (fun k5 => pk_eq a 0 (fun q => pk_le a 0 (fun _ => h0 (fun z => ?_) b_reached) (fun w => absurd w (by omega))) (fun q => ⟨nt_f N + 1, yl_ca115 W I hB R hi (by omega) (fun z => h1 ⟨pa.mp (by omega), fun w => absurd w k4, fun _ => z⟩) (fun z => h0 (fun w => w.2.2 k5 z)) (nt_f N) 0 b_reached (by omega) (fun f' h => by omega)⟩)) (fun k5 => pk_le a 0 (fun _ => h0 (fun z => ?_) b_reached) (fun w => h1 ⟨pa.mp w, fun z => absurd z k4, fun z => absurd z k5⟩ b_reached)) ek rfl)) ek rfl))
    · have := pa.mpr z.1; omega
    · exact Classical.byContradiction (fun w => by have := pb.mpr ⟨f', hf', e, w⟩; omega)
    · obtain ⟨f', q1, q2', q3⟩ := pb.mp (by omega)
      exact q3 (z.2.1 k4 f' q1 q2')
    · have := pa.mpr z.1; omega
    · have := pa.mpr z.1; omega
  | succ d ih =>
    intro f a b hd ha hb pa pb
    have kf : (nI f).toNatClampNeg = f := nI_clamp (by omega)
    have et : b_to (nI f).toNatClampNeg = nI (nt_to N f) := by rw [kf]; exact RN.2.2.2.2.2.1 f (by omega)
    have hff := (W.1.2.2.1 f (by omega)).2
    have ex : (20 * nI i + nI f : Int32) = nI (20 * i + f) := ix_m 20 i f
    have b2 := ic_on I hi (show f < 20 by omega)
    have F : ∀ (Z : Nat → Prop) (k : Nat), (0 < k ↔ ∃ f', f' < f ∧ nt_to N f' = n ∧ Z f') → ¬ (nt_to N f = n ∧ Z f) → (0 < k ↔ ∃ f', f' < f + 1 ∧ nt_to N f' = n ∧ Z f') := by
      intro Z k p q
      rw [p]
      constructor
      · rintro ⟨f', z1, z2⟩; exact ⟨f', by omega, z2⟩
      · rintro ⟨f', z1, z2⟩
        by_cases w : f' = f
        · subst w; exact absurd z2 q
        · exact ⟨f', by omega, z2⟩
    rw [wY_can_8]
    refine br_f (by rw [RN.2.1]; exact nI_ge (by omega) (by omega)) (And.intro (vp_in_nI (by omega) (by omega)) (pk_eq (nt_to N f) n (fun e => And.intro (by rw [ex]; exact vp_in_nI (by omega) (by omega)) (pk_le (ds_on c (20 * i + f)) 0 (fun q => nm_r (nI_1 b) (nm_r (nI_1 f) (ih (f + 1) a (b + 1) (by omega) (by omega) (by omega) (F _ a pa ?_) ?_))) (fun q => nm_r (nI_1 a) (nm_r (nI_1 f) (ih (f + 1) (a + 1) b (by omega) (by omega) (by omega) ?_ (F (fun f' => ¬ ds_P c i f') b pb ?_)))) ?_)) (fun e => nm_r (nI_1 f) (ih (f + 1) a b (by omega) (by omega) (by omega) (F _ a pa (fun w => e w.1)) (F (fun f' => ¬ ds_P c i f') b pb (fun w => e w.1)))) et rfl))
    · rintro ⟨_, w⟩; unfold ds_P at w; omega
    · exact ⟨fun _ => ⟨f, by omega, e, by unfold ds_P; omega⟩, fun _ => by omega⟩
    · exact ⟨fun _ => ⟨f, by omega, e, q⟩, fun _ => by omega⟩
    · rintro ⟨_, w⟩; exact w q
    · rw [ex, nI_clamp (by omega)]; exact R.2.2.1.1 _ (by omega)
theorem yl_can {post : Int32 → SY → Prop} {N D : NT} {B : Nat} {c j : DS} {i n : Nat} {b_kind b_number b_from b_to b_cond b_nodes b_flows b_variables b_on b_in b_times b_stored b_clock b_acts b_reached : Nat → Int32} (W : nt_W N) (I : ic_C N B c) (hB : B < 2 ^ 31) (R : yy_R N D c j (b_kind, b_number, b_from, b_to, b_cond, b_nodes, b_flows, b_variables, b_on, b_in, b_times, b_stored, b_clock, b_acts, b_reached)) (hi : i < 3) (hn : n < nt_n N)
    (h1 : ds_Can N c i n → ∀ r, post 1 (b_kind, b_number, b_from, b_to, b_cond, b_nodes, b_flows, b_variables, b_on, b_in, b_times, b_stored, b_clock, b_acts, r)) (h0 : ¬ ds_Can N c i n → ∀ r, post 0 (b_kind, b_number, b_from, b_to, b_cond, b_nodes, b_flows, b_variables, b_on, b_in, b_times, b_stored, b_clock, b_acts, r)) : wpY_can post (b_kind, b_number, b_from, b_to, b_cond, b_nodes, b_flows, b_variables, b_on, b_in, b_times, b_stored, b_clock, b_acts, b_reached) (nI i) (nI n) :=
  ⟨nt_f N + 1, yl_ca8 W I hB R hi hn h1 h0 (nt_f N) 0 0 0 (by omega) (by omega) (by omega) ⟨fun z => by omega, fun ⟨f', z, _⟩ => by omega⟩ ⟨fun z => by omega, fun ⟨f', z, _⟩ => by omega⟩⟩
end
section
/-! Y: split, send, act, first -/
theorem dc_sp1 {c : DS} {i a m : Nat} (h : a < m) : dc_sp c i (fun e => decide (e = a)) m = dc_put c i a := by
  have e1 : dc_sp c i (fun e => decide (e = a)) a = c := by
    have := dc_spE (c := c) (i := i) (f := 0) (S := fun e => decide (e = a)) a (fun e h1 h2 => by rw [decide_eq_true_iff]; omega)
    rw [Nat.zero_add] at this
    exact this
  have e2 : dc_sp c i (fun e => decide (e = a)) (a + 1) = dc_put c i a := by
    rw [dc_spT (by rw [decide_eq_true_iff]), e1]
  have := dc_spE (c := c) (i := i) (f := a + 1) (S := fun e => decide (e = a)) (m - (a + 1)) (fun e h1 h2 => by rw [decide_eq_true_iff]; omega)
  rw [show a + 1 + (m - (a + 1)) = m from by omega, e2] at this
  exact this
theorem yy_ent {c : DS} {k : Nat} {va on inn tm st : Nat → Int32} {ck ac : Int32} (h : yy_S c va on inn tm st ck ac) (hs : ds_sm c k ≤ ds_in c k) : yy_S (dc_in c (un_U (ds_in c) k (ds_in c k + 1))) va on (upd inn k (nI (ds_in c k - ds_sm c k + 1))) tm st ck ac := by
  refine ⟨h.1, fun q hq => ?_, h.2.2⟩
  show upd inn k _ q = nI (un_U (ds_in c) k (ds_in c k + 1) q - ds_sm c q)
  by_cases e : q = k
  · subst e
    rw [pk_us, un_s]
    exact congrArg nI (by omega)
  · rw [pk_un e, un_n e]; exact h.2.1 q hq
theorem yy_out {c : DS} {k : Nat} {va on inn tm st : Nat → Int32} {ck ac : Int32} (h : yy_S c va on inn tm st ck ac) (hs : ds_sm c k = 0) : yy_S (dc_in c (un_U (ds_in c) k (ds_in c k - 1))) va on (upd inn k (nI (ds_in c k - 1))) tm st ck ac := by
  refine ⟨h.1, fun q hq => ?_, h.2.2⟩
  show upd inn k _ q = nI (un_U (ds_in c) k (ds_in c k - 1) q - ds_sm c q)
  by_cases e : q = k
  · subst e
    rw [pk_us, un_s, hs]
    rfl
  · rw [pk_un e, un_n e]; exact h.2.1 q hq
theorem yl_putR {N D : NT} {c j : DS} {i f : Nat} {b_kind b_number b_from b_to b_cond b_nodes b_flows b_variables b_on b_in b_times b_stored b_clock b_acts b_reached : Nat → Int32} (R : yy_R N D c j (b_kind, b_number, b_from, b_to, b_cond, b_nodes, b_flows, b_variables, b_on, b_in, b_times, b_stored, b_clock, b_acts, b_reached)) (hi : i < 3) (hf : f < 20) : yy_R N D (dc_put c i f) j (b_kind, b_number, b_from, b_to, b_cond, b_nodes, b_flows, b_variables, upd b_on (20 * i + f) (nI (ds_on c (20 * i + f) + 1)), b_in, b_times, b_stored, b_clock, b_acts, b_reached) :=
  ⟨R.1, R.2.1, ⟨un_upd R.2.2.1.1 rfl, R.2.2.1.2⟩, yy_on R.2.2.2 (fun k hk => pk_un (by omega))⟩
theorem yl_takeR {N D : NT} {c j : DS} {i f : Nat} {b_kind b_number b_from b_to b_cond b_nodes b_flows b_variables b_on b_in b_times b_stored b_clock b_acts b_reached : Nat → Int32} (R : yy_R N D c j (b_kind, b_number, b_from, b_to, b_cond, b_nodes, b_flows, b_variables, b_on, b_in, b_times, b_stored, b_clock, b_acts, b_reached)) (hi : i < 3) (hf : f < 20) : yy_R N D (dc_take c i f) j (b_kind, b_number, b_from, b_to, b_cond, b_nodes, b_flows, b_variables, upd b_on (20 * i + f) (nI (ds_on c (20 * i + f) - 1)), b_in, b_times, b_stored, b_clock, b_acts, b_reached) :=
  ⟨R.1, R.2.1, ⟨un_upd R.2.2.1.1 rfl, R.2.2.1.2⟩, yy_on R.2.2.2 (fun k hk => pk_un (by omega))⟩
theorem yl_sp66 {post : SY → Prop} {J : Int32 → Int32 → (Nat → Int32) → (Nat → Int32) → (Nat → Int32) → (Nat → Int32) → (Nat → Int32) → (Nat → Int32) → (Nat → Int32) → (Nat → Int32) → (Nat → Int32) → (Nat → Int32) → (Nat → Int32) → (Nat → Int32) → (Nat → Int32) → (Nat → Int32) → (Nat → Int32) → Prop} {N D : NT} {c j : DS} {i f g : Nat} {x2 x3 : Int32} {b_kind b_number b_from b_to b_cond b_nodes b_flows b_variables b_on b_in b_times b_stored b_clock b_acts b_reached : Nat → Int32} (R : yy_R N D c j (b_kind, b_number, b_from, b_to, b_cond, b_nodes, b_flows, b_variables, b_on, b_in, b_times, b_stored, b_clock, b_acts, b_reached)) (hi : i < 3) (hf : f < 20)
    (h : yy_R N D (dc_put c i f) j (b_kind, b_number, b_from, b_to, b_cond, b_nodes, b_flows, b_variables, upd b_on (20 * i + f) (nI (ds_on c (20 * i + f) + 1)), b_in, b_times, b_stored, b_clock, b_acts, b_reached) → J (nI (g + 1)) (nI (f + 1)) b_kind b_number b_from b_to b_cond b_nodes b_flows b_variables (upd b_on (20 * i + f) (nI (ds_on c (20 * i + f) + 1))) b_in b_times b_stored b_clock b_acts b_reached) : wY_split_66 post J (nI i) x2 x3 (nI g) (nI f) b_kind b_number b_from b_to b_cond b_nodes b_flows b_variables b_on b_in b_times b_stored b_clock b_acts b_reached := by
  have ex : (20 * nI i + nI f : Int32) = nI (20 * i + f) := ix_m 20 i f
  have v : vp_in (20 * nI i + nI f) 120 := by rw [ex]; exact vp_in_nI (by omega) (by omega)
  refine And.intro v (And.intro v (nm_r ?_ (nm_r (nI_1 g) (nm_r (nI_1 f) (h (yl_putR R hi hf))))))
  rw [ex, nI_clamp (by omega), R.2.2.1.1 _ (by omega), nI_1]
theorem yl_spe {post : SY → Prop} {N D : NT} {c j : DS} {i n g m : Nat} {x3 : Int32} {b_kind b_number b_from b_to b_cond b_nodes b_flows b_variables b_on b_in b_times b_stored b_clock b_acts b_reached : Nat → Int32} (W : nt_D N) (R : yy_R N D c j (b_kind, b_number, b_from, b_to, b_cond, b_nodes, b_flows, b_variables, b_on, b_in, b_times, b_stored, b_clock, b_acts, b_reached)) (hi : i < 3) (hn : n < 12) (hg : g < 2 ^ 31) (hl : ∃ f, f < nt_f N ∧ nt_fr N f = n) (h1 : 0 < g → ∀ v', yy_R N D c j v' → post v') (h0 : g = 0 → ∀ v', yy_R N D (dc_put c i (nt_la N n)) j v' → post v') : wY_split_13 post (nI i) (nI n) x3 (m + 1) (nI g) (nI (nt_f N)) b_kind b_number b_from b_to b_cond b_nodes b_flows b_variables b_on b_in b_times b_stored b_clock b_acts b_reached := by
  have W20 := W.2.1
  have la := (nt_laE hl).1
  have ex : (20 * nI i + nI (nt_la N n) : Int32) = nI (20 * i + nt_la N n) := ix_m 20 i _
  have v : vp_in (20 * nI i + nI (nt_la N n)) 120 := by rw [ex]; exact vp_in_nI (by omega) (by omega)
  rw [wY_split_13]
  refine br_t (by rw [R.2.1.2.1]; exact nI_le (Nat.le_refl _) (by omega)) (yl_la W R hn hl (pk_eq g 0 (fun q => And.intro v (And.intro v (nm_r ?_ (h0 q _ (yl_putR R hi (by omega)))))) (fun q => h1 (by omega) _ R)))
  rw [ex, nI_clamp (by omega), R.2.2.1.1 _ (by omega), nI_1]
/-- AND and OR: all flows of S -/
theorem yl_spA {post : SY → Prop} {N D : NT} {c j : DS} {i n : Nat} {S : Nat → Bool} (W : nt_D N) (hi : i < 3) (hn : n < nt_n N) (hl : ∃ f, f < nt_f N ∧ nt_fr N f = n) (hk : nt_ki N n = 4 ∨ nt_ki N n = 5)
    (hS0 : ∀ f, f < nt_f N → nt_fr N f ≠ n → ¬ S f = true) (hS4 : ∀ f, f < nt_f N → nt_fr N f = n → nt_ki N n = 4 → S f = true) (hS5 : ∀ f, f < nt_f N → nt_fr N f = n → nt_ki N n = 5 → S f = ds_h N c i f)
    (h1 : (∃ e, e < nt_f N ∧ S e = true) → ∀ v', yy_R N D (dc_sp c i S (nt_f N)) j v' → post v') (h0 : (¬ ∃ e, e < nt_f N ∧ S e = true) → ∀ v', yy_R N D (dc_put c i (nt_la N n)) j v' → post v') :
    ∀ d f g {b_kind b_number b_from b_to b_cond b_nodes b_flows b_variables b_on b_in b_times b_stored b_clock b_acts b_reached : Nat → Int32}, f + d = nt_f N → g ≤ f → (0 < g ↔ ∃ e, e < f ∧ S e = true) → yy_R N D (dc_sp c i S f) j (b_kind, b_number, b_from, b_to, b_cond, b_nodes, b_flows, b_variables, b_on, b_in, b_times, b_stored, b_clock, b_acts, b_reached) → wY_split_13 post (nI i) (nI n) (nI (nt_ki N n)) (d + 1) (nI g) (nI f) b_kind b_number b_from b_to b_cond b_nodes b_flows b_variables b_on b_in b_times b_stored b_clock b_acts b_reached := by
  have W20 := W.2.1
  have W12 := W.1
  have kb : nt_ki N n < 2 ^ 31 := by rcases hk with q | q <;> rw [q] <;> decide
  have k3 : ¬ nI (nt_ki N n) = 3 := by rcases hk with q | q <;> rw [q] <;> decide
  have k5 : nt_ki N n ≠ 4 → nt_ki N n = 5 := fun q => hk.resolve_left q
  clear hk
  intro d
  induction d with
  | zero =>
    intro f g b_kind b_number b_from b_to b_cond b_nodes b_flows b_variables b_on b_in b_times b_stored b_clock b_acts b_reached hd hg pg R
    have : f = nt_f N := by omega
    subst this
    refine yl_spe W R hi (by omega) (by omega) hl (fun q => h1 (pg.mp q)) (fun q => ?_)
    have ne : ¬ ∃ e, e < nt_f N ∧ S e = true := fun z => by have := pg.mpr z; omega
    have e0 : dc_sp c i S (nt_f N) = c := by
      have := dc_spE (c := c) (i := i) (f := 0) (S := S) (nt_f N) (fun e _ h2 w => ne ⟨e, by omega, w⟩)
      rw [Nat.zero_add] at this
      exact this
    rw [e0]
    exact h0 ne
  | succ d ih =>
    intro f g b_kind b_number b_from b_to b_cond b_nodes b_flows b_variables b_on b_in b_times b_stored b_clock b_acts b_reached hd hg pg R
    have kf : (nI f).toNatClampNeg = f := nI_clamp (by omega)
    have ef : b_from (nI f).toNatClampNeg = nI (nt_fr N f) := by rw [kf]; exact R.2.1.2.2.2.2.1 f (by omega)
    have hff := (W.2.2.1 f (by omega)).1
    have sF : ¬ S f = true → (yy_R N D (dc_sp c i S (f + 1)) j (b_kind, b_number, b_from, b_to, b_cond, b_nodes, b_flows, b_variables, b_on, b_in, b_times, b_stored, b_clock, b_acts, b_reached) ∧ (0 < g ↔ ∃ e, e < f + 1 ∧ S e = true)) := by
      intro q
      rw [dc_spF q]
      refine ⟨R, pg.trans ⟨fun ⟨e, a, b⟩ => ⟨e, by omega, b⟩, fun ⟨e, a, b⟩ => ?_⟩⟩
      by_cases w : e = f
      · subst w; exact absurd b q
      · exact ⟨e, by omega, b⟩
    have sT : S f = true → wY_split_66 post (wY_split_13 post (nI i) (nI n) (nI (nt_ki N n)) (d + 1)) (nI i) (nI n) (nI (nt_ki N n)) (nI g) (nI f) b_kind b_number b_from b_to b_cond b_nodes b_flows b_variables b_on b_in b_times b_stored b_clock b_acts b_reached := by
      intro q
      refine yl_sp66 R hi (by omega) (fun R' => ih (f + 1) (g + 1) (by omega) (by omega) ⟨fun _ => ⟨f, by omega, q⟩, fun _ => by omega⟩ ?_)
      rw [dc_spT q]
      exact R'
    rw [wY_split_13]
    refine br_f (by rw [R.2.1.2.1]; exact nI_ge (by omega) (by omega)) (And.intro (vp_in_nI (by omega) (by omega)) (pk_eq (nt_fr N f) n (fun e => br_f k3 (pk_eq (nt_ki N n) 4 (fun k4 => sT (hS4 f (by omega) e k4)) (fun k4 => ?_) rfl rfl kb (by decide))) (fun e => nm_r (nI_1 f) (ih (f + 1) g (by omega) (by omega) (sF (hS0 f (by omega) e)).2 (sF (hS0 f (by omega) e)).1)) ef rfl))
    have eh : ds_h N (dc_sp c i S f) i f = S f := by
      rw [hS5 f (by clear pg; omega) e (k5 k4)]
      unfold ds_h ds_va
      rw [dc_sp2]
    refine yl_holds W R hi (by omega) (fun q => br_f ix_10 (sT (by rw [← eh]; exact q))) (fun q => br_t rfl (nm_r (nI_1 f) (ih (f + 1) g (by omega) (by omega) (sF ?_).2 (sF ?_).1)))
    · rw [← eh, q]; exact Bool.false_ne_true
    · rw [← eh, q]; exact Bool.false_ne_true
/-- XOR, behind the first put -/
theorem yl_spX1 {post : SY → Prop} {N D : NT} {c j : DS} {i n : Nat} {b_kind b_number b_from b_to b_cond b_nodes b_flows b_variables b_on b_in b_times b_stored b_clock b_acts b_reached : Nat → Int32} (W : nt_D N) (R : yy_R N D c j (b_kind, b_number, b_from, b_to, b_cond, b_nodes, b_flows, b_variables, b_on, b_in, b_times, b_stored, b_clock, b_acts, b_reached)) (hi : i < 3) (hn : n < nt_n N) (hl : ∃ f, f < nt_f N ∧ nt_fr N f = n) (h : ∀ v', yy_R N D c j v' → post v') :
    ∀ d f, f + d = nt_f N → wY_split_13 post (nI i) (nI n) 3 (d + 1) 1 (nI f) b_kind b_number b_from b_to b_cond b_nodes b_flows b_variables b_on b_in b_times b_stored b_clock b_acts b_reached := by
  have W20 := W.2.1
  have W12 := W.1
  intro d
  induction d with
  | zero =>
    intro f hd
    have : f = nt_f N := by omega
    subst this
    exact yl_spe (g := 1) W R hi (by omega) (by omega) hl (fun _ => h) (fun q => by omega)
  | succ d ih =>
    intro f hd
    have n1 : ¬ (1 : Int32) ≤ 0 := by decide
    rw [wY_split_13]
    exact br_f (by rw [R.2.1.2.1]; exact nI_ge (by omega) (by omega)) (And.intro (vp_in_nI (by omega) (by omega)) (br_c (fun _ => br_t rfl (br_f n1 (nm_r (nI_1 f) (ih (f + 1) (by omega))))) (fun _ => nm_r (nI_1 f) (ih (f + 1) (by omega)))))
theorem yl_spX {post : SY → Prop} {N D : NT} {c j : DS} {i n : Nat} {b_kind b_number b_from b_to b_cond b_nodes b_flows b_variables b_on b_in b_times b_stored b_clock b_acts b_reached : Nat → Int32} (W : nt_D N) (R : yy_R N D c j (b_kind, b_number, b_from, b_to, b_cond, b_nodes, b_flows, b_variables, b_on, b_in, b_times, b_stored, b_clock, b_acts, b_reached)) (hi : i < 3) (hn : n < nt_n N) (hl : ∃ f, f < nt_f N ∧ nt_fr N f = n) (h : ∀ v', yy_R N D (dc_put c i (sr_L (ds_cb N c i n) (nt_f N))) j v' → post v') :
    ∀ d f, f + d = nt_f N → (∀ e, e < f → ds_s1 N c i n e = false) → wY_split_13 post (nI i) (nI n) 3 (d + 1) 0 (nI f) b_kind b_number b_from b_to b_cond b_nodes b_flows b_variables b_on b_in b_times b_stored b_clock b_acts b_reached := by
  have W20 := W.2.1
  have W12 := W.1
  intro d
  induction d with
  | zero =>
    intro f hd hf
    have : f = nt_f N := by omega
    subst this
    have na : ¬ ds_an N c i n := fun ⟨e, a, b⟩ => by rw [hf e a] at b; exact Bool.noConfusion b
    have el : sr_L (ds_cb N c i n) (nt_f N) = nt_la N n := by
      refine sr_is (nt_laE hl).1 (ds_cbi.mp (Or.inr ⟨na, rfl⟩)) (fun e he => Bool.eq_false_iff.mpr (fun w => ?_))
      rcases ds_cbi.mpr w with z | z
      · exact na z.1
      · omega
    rw [el] at h
    exact yl_spe (g := 0) W R hi (by omega) (by omega) hl (fun q => by omega) (fun _ => h)
  | succ d ih =>
    intro f hd hf
    have kf : (nI f).toNatClampNeg = f := nI_clamp (by omega)
    have ef : b_from (nI f).toNatClampNeg = nI (nt_fr N f) := by rw [kf]; exact R.2.1.2.2.2.2.1 f (by omega)
    have hff := (W.2.2.1 f (by omega)).1
    have n3 : ¬ (3 : Int32) = 4 := by decide
    have nx : ds_s1 N c i n f = false → wY_split_13 post (nI i) (nI n) 3 (d + 1) 0 (nI (f + 1)) b_kind b_number b_from b_to b_cond b_nodes b_flows b_variables b_on b_in b_times b_stored b_clock b_acts b_reached := fun q => ih (f + 1) (by omega) (fun e he => by
      by_cases w : e = f
      · subst w; exact q
      · exact hf e (by omega))
    rw [wY_split_13]
    refine br_f (by rw [R.2.1.2.1]; exact nI_ge (by omega) (by omega)) (And.intro (vp_in_nI (by omega) (by omega)) (pk_eq (nt_fr N f) n (fun e => br_t rfl (br_t (by decide) (br_f n3 (yl_holds W R hi (by omega) (fun q => br_f ix_10 ?_) (fun q => br_t rfl (nm_r (nI_1 f) (nx ?_))))))) (fun e => nm_r (nI_1 f) (nx ?_)) ef rfl))
    · have s1 : ds_s1 N c i n f = true := ds_s1i.mpr ⟨e, q⟩
      have an : ds_an N c i n := ⟨f, by omega, s1⟩
      have el : sr_L (ds_cb N c i n) (nt_f N) = f := by
        refine sr_is (by omega) (ds_cbi.mp (Or.inl ⟨an, s1⟩)) (fun e he => Bool.eq_false_iff.mpr (fun w => ?_))
        rcases ds_cbi.mpr w with z | z
        · rw [hf e he] at z; exact Bool.noConfusion z.2
        · exact z.1 an
      rw [el] at h
      exact yl_sp66 (g := 0) R hi (by omega) (fun R' => yl_spX1 W R' hi hn hl h d (f + 1) (by omega))
    · refine Bool.eq_false_iff.mpr (fun w => ?_)
      rw [(ds_s1i.mp w).2] at q
      exact Bool.noConfusion q
    · exact Bool.eq_false_iff.mpr (fun w => e (ds_s1i.mp w).1)
/-- what an act does behind its takes -/
def dc_fin (N : NT) (c : DS) (i n : Nat) : DS := if nt_ki N n = 4 then dc_sp c i (fun e => decide (nt_fr N e = n)) (nt_f N) else if nt_ki N n = 5 then dc_sp c i (ds_cb N c i n) (nt_f N) else dc_act1 N c i n
theorem yl_split {post : SY → Prop} {N D : NT} {c j : DS} {i n : Nat} {b_kind b_number b_from b_to b_cond b_nodes b_flows b_variables b_on b_in b_times b_stored b_clock b_acts b_reached : Nat → Int32} (W : nt_W N) (R : yy_R N D c j (b_kind, b_number, b_from, b_to, b_cond, b_nodes, b_flows, b_variables, b_on, b_in, b_times, b_stored, b_clock, b_acts, b_reached)) (hi : i < 3) (hn : n < nt_n N) (hk : nt_ki N n = 3 ∨ nt_ki N n = 4 ∨ nt_ki N n = 5) (h : ∀ v', yy_R N D (dc_fin N c i n) j v' → post v') : wpY_split post (b_kind, b_number, b_from, b_to, b_cond, b_nodes, b_flows, b_variables, b_on, b_in, b_times, b_stored, b_clock, b_acts, b_reached) (nI i) (nI n) := by
  have W12 := W.1.1
  have kn : (nI n).toNatClampNeg = n := nI_clamp (by omega)
  have hl := W.2.2.1 n hn (by omega) (by omega)
  unfold dc_fin at h
  refine And.intro (vp_in_nI (by omega) (by omega)) (nm_r (e' := nI (nt_ki N n)) (by rw [kn]; exact R.2.1.2.2.1 n hn) ⟨nt_f N + 1, ?_⟩)
  rcases hk with k | k | k
  · rw [if_neg (by omega), if_neg (by omega), dc_a3 k] at h
    rw [k]
    exact yl_spX W.1 R hi hn hl h (nt_f N) 0 (by omega) (fun e he => by omega)
  · rw [if_pos k] at h
    refine yl_spA (S := fun e => decide (nt_fr N e = n)) W.1 hi hn hl (Or.inl k) (fun f _ e => by rw [decide_eq_true_iff]; exact e) (fun f _ e _ => decide_eq_true e) (fun f _ _ k5 => by omega) (fun _ => h) (fun z => absurd ?_ z) (nt_f N) 0 0 (by omega) (Nat.le_refl _) ⟨fun z => by omega, fun ⟨e, a, _⟩ => by omega⟩ R
    obtain ⟨f, a, b⟩ := hl
    exact ⟨f, a, decide_eq_true b⟩
  · rw [if_neg (by omega), if_pos k] at h
    refine yl_spA (S := ds_s1 N c i n) W.1 hi hn hl (Or.inr k) (fun f _ e z => e (ds_s1i.mp z).1) (fun f _ _ k4 => by omega) (fun f _ e _ => ?_) (fun z => ?_) (fun z => ?_) (nt_f N) 0 0 (by omega) (Nat.le_refl _) ⟨fun z => by omega, fun ⟨e, a, _⟩ => by omega⟩ R
    · unfold ds_s1; rw [decide_eq_true e]; rfl
    · rw [dc_spC (T := ds_s1 N c i n) (nt_f N) (fun e _ => by unfold ds_cb; rw [if_pos (ds_ani.mp z)])] at h
      exact h
    · rw [dc_spC (T := fun e => decide (e = nt_la N n)) (nt_f N) (fun e _ => by unfold ds_cb; rw [if_neg (fun w => z (ds_ani.mpr w))]), dc_sp1 (nt_laE hl).1] at h
      exact h
theorem yl_s9 {post : SY → Prop} {J : Int32 → Prop} {N D : NT} {B : Nat} {c j : DS} {i m : Nat} {b_kind b_number b_from b_to b_cond b_nodes b_flows b_variables b_on b_in b_times b_stored b_clock b_acts b_reached : Nat → Int32} (W : nt_W N) (I : ic_C N B c) (hB : B < 2 ^ 31) (R : yy_R N D c j (b_kind, b_number, b_from, b_to, b_cond, b_nodes, b_flows, b_variables, b_on, b_in, b_times, b_stored, b_clock, b_acts, b_reached)) (hi : i < 3) (hm : m < 3)
    (h : ∀ v', yy_R N D (dc_send N c m) j v' → post v') (hJ : (∀ k, k < 12 * (i + 1) → ds_sd N c m k = false) → J (nI (i + 1))) :
    ∀ d n, n + d = nt_n N → (∀ k, k < 12 * i + n → ds_sd N c m k = false) → wY_send_9 post J (nI m) (nI i) b_kind b_number b_from b_to b_cond b_nodes b_flows b_variables b_on b_in b_times b_stored b_clock b_acts b_reached (d + 1) (nI n) := by
  have W12 := W.1.1
  have R' := R
  obtain ⟨RD, RN, RS, RJ⟩ := R
  intro d
  induction d with
  | zero =>
    intro n hd hl
    rw [wY_send_9]
    refine br_t (by rw [RN.1]; exact nI_le (by omega) (by omega)) (nm_r (nI_1 i) (hJ (fun k hk => ?_)))
    by_cases q : k < 12 * i + n
    · exact hl k q
    · obtain ⟨n', rfl⟩ : ∃ n', k = 12 * i + n' := ⟨k - 12 * i, by omega⟩
      exact Bool.eq_false_iff.mpr (fun w => by have := ((ds_sdi (by omega)).mp w).1; omega)
  | succ d ih =>
    intro n hd hl
    have vn : vp_in (nI n) 24 := vp_in_nI (by omega) (by omega)
    have kn : (nI n).toNatClampNeg = n := nI_clamp (by omega)
    obtain ⟨wk, wn, _, _, w9⟩ := W.1.2.2.2.1 n (by omega)
    have ek : b_kind (nI n).toNatClampNeg = nI (nt_ki N n) := by rw [kn]; exact RN.2.2.1 n (by omega)
    have en : b_number (nI n).toNatClampNeg = nI (nt_nu N n) := by rw [kn]; exact RN.2.2.2.1 n (by omega)
    have nx : ¬ ds_sd N c m (12 * i + n) = true → wY_send_9 post J (nI m) (nI i) b_kind b_number b_from b_to b_cond b_nodes b_flows b_variables b_on b_in b_times b_stored b_clock b_acts b_reached (d + 1) (nI (n + 1)) := fun q => ih (n + 1) (by omega) (fun k hk => by
      by_cases e : k = 12 * i + n
      · subst e; exact Bool.eq_false_iff.mpr q
      · exact hl k (by omega))
    have ex : (12 * nI i + nI n : Int32) = nI (12 * i + n) := ix_m 12 i n
    have v : vp_in (12 * nI i + nI n) 72 := by rw [ex]; exact vp_in_nI (by omega) (by omega)
    have b2 := ic_in W I hi (show n < 12 by omega)
    rw [wY_send_9]
    refine br_f (by rw [RN.1]; exact nI_ge (by omega) (by omega)) (And.intro vn (pk_eq (nt_ki N n) 9 (fun k9 => And.intro vn (pk_eq (nt_nu N n) m (fun e => And.intro v ?_) (fun e => nm_r (nI_1 n) (nx (fun w => e ((ds_sdi (by omega)).mp w).2.2.1))) en rfl)) (fun k9 => nm_r (nI_1 n) (nx (fun w => k9 ((ds_sdi (by omega)).mp w).2.1))) ek rfl))
    have sm0 : ds_sm c (12 * i + n) = 0 := ic_sm0 I hi (by omega) (fun z => by omega)
    have ei : b_in (12 * nI i + nI n).toNatClampNeg = nI (ds_in c (12 * i + n)) := by
      rw [ex, nI_clamp (by omega), RS.2.1 _ (by omega), sm0]; rfl
    refine pk_eq (ds_in c (12 * i + n)) 0 (fun q => nm_r (nI_1 n) (nx (fun w => by have := ((ds_sdi (by omega)).mp w).2.2.2; omega))) (fun q => And.intro v (And.intro v (nm_r (e' := upd b_in (12 * i + n) (nI (ds_in c (12 * i + n) - 1))) ?_ ?_))) ei rfl
    · rw [ei, ex, nI_clamp (by omega)]
      exact congrArg _ (pk_sub (b := 1) (by omega))
    · have hs : dc_send N c m = dc_gon N c i n := dc_send1 hi (by omega) ((ds_sdi (by omega)).mpr ⟨by omega, k9, e, by omega⟩) hl
      rw [hs] at h
      exact yl_pass (c := dc_out c i n) (m := 1) W.1 ⟨RD, RN, yy_out RS sm0, yy_in RJ (fun k hk => pk_un (by omega))⟩ hi (by omega) (W.2.2.1 n (by omega) (by omega) (by omega)) rfl (yy_all (fun b_kind b_number b_from b_to b_cond b_nodes b_flows b_variables b_on b_in b_times b_stored b_clock b_acts b_reached R => h _ R))
theorem yl_s2 {post : SY → Prop} {N D : NT} {B : Nat} {c j : DS} {m : Nat} {b_kind b_number b_from b_to b_cond b_nodes b_flows b_variables b_on b_in b_times b_stored b_clock b_acts b_reached : Nat → Int32} (W : nt_W N) (I : ic_C N B c) (hB : B < 2 ^ 31) (R : yy_R N D c j (b_kind, b_number, b_from, b_to, b_cond, b_nodes, b_flows, b_variables, b_on, b_in, b_times, b_stored, b_clock, b_acts, b_reached)) (hm : m < 3)
    (h : ∀ v', yy_R N D (dc_send N c m) j v' → post v') :
    ∀ d i, i + d = 3 → (∀ k, k < 12 * i → ds_sd N c m k = false) → wY_send_2 post (nI m) b_kind b_number b_from b_to b_cond b_nodes b_flows b_variables b_on b_in b_times b_stored b_clock b_acts b_reached (d + 1) (nI i) := by
  have R' := R
  obtain ⟨RD, RN, RS, RJ⟩ := R
  have vm : vp_in (nI m) 6 := vp_in_nI (by omega) (by omega)
  have km : (nI m).toNatClampNeg = m := nI_clamp (by omega)
  have es : b_stored (nI m).toNatClampNeg = nI (ds_st c m) := by rw [km]; exact RS.2.2.2.2.1 m hm
  have s9 : ds_st c m ≤ 9 := I.2.2.2.2.2.1 m hm
  intro d
  induction d with
  | zero =>
    intro i hi hl
    have : i = 3 := by omega
    subst this
    rw [dc_send0 hl] at h
    rw [wY_send_2]
    refine br_t (nI_le (Nat.le_refl _) (by omega)) (And.intro vm ?_)
    rw [es]
    refine pk_le 9 (ds_st c m) (fun q => h _ ?_) (fun q => And.intro vm (And.intro vm (nm_r (e' := upd b_stored m (nI (ds_st c m + 1))) ?_ (h _ ?_))))
    · rw [if_neg (by omega)]; exact R'
    · rw [km, nI_1]
    · rw [if_pos q]
      exact ⟨RD, RN, ⟨RS.1, RS.2.1, RS.2.2.1, RS.2.2.2.1, un_upd RS.2.2.2.2.1 rfl, RS.2.2.2.2.2⟩, yy_st RJ (fun k hk => pk_un (by omega))⟩
  | succ d ih =>
    intro i hi hl
    rw [wY_send_2]
    exact br_f (nI_ge (b := 3) (by omega) (by omega)) ⟨nt_n N + 1, yl_s9 W I hB R' (by omega) hm h (fun q => ih (i + 1) (by omega) q) (nt_n N) 0 (by omega) hl⟩
theorem yl_send {post : SY → Prop} {N D : NT} {B : Nat} {c j : DS} {m : Nat} {b_kind b_number b_from b_to b_cond b_nodes b_flows b_variables b_on b_in b_times b_stored b_clock b_acts b_reached : Nat → Int32} (W : nt_W N) (I : ic_C N B c) (hB : B < 2 ^ 31) (R : yy_R N D c j (b_kind, b_number, b_from, b_to, b_cond, b_nodes, b_flows, b_variables, b_on, b_in, b_times, b_stored, b_clock, b_acts, b_reached)) (hm : m < 3) (h : ∀ v', yy_R N D (dc_send N c m) j v' → post v') : wpY_send post (b_kind, b_number, b_from, b_to, b_cond, b_nodes, b_flows, b_variables, b_on, b_in, b_times, b_stored, b_clock, b_acts, b_reached) (nI m) :=
  ⟨4, yl_s2 W I hB R hm h 3 0 (by omega) (fun k hk => by omega)⟩
/-- behind the takes -/
theorem yl_a30e {post : SY → Prop} {N D : NT} {B : Nat} {c j : DS} {i n m : Nat} {x4 x5 : Int32} {b_kind b_number b_from b_to b_cond b_nodes b_flows b_variables b_on b_in b_times b_stored b_clock b_acts b_reached : Nat → Int32} (W : nt_W N) (I : ic_C N B c) (hB : B < 2 ^ 30) (R : yy_R N D c j (b_kind, b_number, b_from, b_to, b_cond, b_nodes, b_flows, b_variables, b_on, b_in, b_times, b_stored, b_clock, b_acts, b_reached)) (hi : i < 3) (hn : n < nt_n N) (h : ∀ v', yy_R N D (dc_fin N c i n) j v' → post v') : wY_act_30 post (nI i) (nI n) (nI (nt_ki N n)) x4 (m + 1) x5 (nI (nt_f N)) b_kind b_number b_from b_to b_cond b_nodes b_flows b_variables b_on b_in b_times b_stored b_clock b_acts b_reached := by
  have R' := R
  obtain ⟨RD, RN, RS, RJ⟩ := R
  have W12 := W.1.1
  have W20 := W.1.2.1
  have kn : (nI n).toNatClampNeg = n := nI_clamp (by omega)
  obtain ⟨w1, w2, w3, w4, w5⟩ := W.1.2.2.2.1 n hn
  have en : b_number (nI n).toNatClampNeg = nI (nt_nu N n) := by rw [kn]; exact RN.2.2.2.1 n hn
  have ex : (12 * nI i + nI n : Int32) = nI (12 * i + n) := ix_m 12 i n
  have v : vp_in (12 * nI i + nI n) 72 := by rw [ex]; exact vp_in_nI (by omega) (by omega)
  have k12 : (12 * nI i + nI n).toNatClampNeg = 12 * i + n := by rw [ex]; exact nI_clamp (by omega)
  have sml := ic_sml I hi (show n < 12 by omega)
  have Ent : ∀ post : SY → Prop, (∀ v', yy_R N D (dc_ent c i n) j v' → post v') → vp_in (12 * nI i + nI n) 72 ∧ (vp_in (12 * nI i + nI n) 72 ∧ ∀ b', b' = upd b_in (12 * nI i + nI n).toNatClampNeg (b_in (12 * nI i + nI n).toNatClampNeg + 1) → post (b_kind, b_number, b_from, b_to, b_cond, b_nodes, b_flows, b_variables, b_on, b', b_times, b_stored, b_clock, b_acts, b_reached)) := by
    intro post h
    refine And.intro v (And.intro v (nm_r (e' := upd b_in (12 * i + n) (nI (ds_in c (12 * i + n) - ds_sm c (12 * i + n) + 1))) ?_ (h _ ⟨RD, RN, yy_ent RS sml, yy_in RJ (fun k hk => pk_un (by omega))⟩)))
    rw [k12, RS.2.1 _ (by omega), nI_1]
  unfold dc_fin at h
  rw [wY_act_30]
  refine br_t (by rw [RN.2.1]; exact nI_le (Nat.le_refl _) (by omega)) (And.intro (vp_in_nI (by omega) (by omega)) (nm_r en ?_))
  refine pk_lt (nt_ki N n) 2 (fun e => ?_) (fun e0 => pk_lt 10 (nt_ki N n) (fun z => absurd z (by omega)) (fun _ => pk_eq (nt_ki N n) 2 (fun e => ?_) (fun e2 => pk_eq (nt_ki N n) 3 (fun e => yl_split W R' hi hn (Or.inl e) (yy_all (fun b_kind b_number b_from b_to b_cond b_nodes b_flows b_variables b_on b_in b_times b_stored b_clock b_acts b_reached R => h _ R))) (fun e3 => pk_eq (nt_ki N n) 4 (fun e => yl_split W R' hi hn (Or.inr (Or.inl e)) (yy_all (fun b_kind b_number b_from b_to b_cond b_nodes b_flows b_variables b_on b_in b_times b_stored b_clock b_acts b_reached R => h _ R))) (fun e4 => pk_eq (nt_ki N n) 5 (fun e => yl_split W R' hi hn (Or.inr (Or.inr e)) (yy_all (fun b_kind b_number b_from b_to b_cond b_nodes b_flows b_variables b_on b_in b_times b_stored b_clock b_acts b_reached R => h _ R))) (fun e5 => pk_eq (nt_ki N n) 6 (fun e => ?_) (fun e6 => pk_eq (nt_ki N n) 7 (fun e => ?_) (fun e7 => pk_eq (nt_ki N n) 8 (fun e => ?_) (fun e8 => pk_eq (nt_ki N n) 9 (fun e => ?_) (fun e9 => pk_eq (nt_ki N n) 10 (fun e => ?_) (fun e10 => absurd w1 (by omega))))))))))))
  · rw [if_neg (by omega), if_neg (by omega)] at h
    refine h _ ?_
    have : dc_act1 N c i n = c := by
      unfold dc_act1
      rw [if_neg (by omega), if_neg (by omega), if_neg (by omega), if_neg (by omega), if_neg (by omega), if_neg (by omega), if_neg (by omega)]
    rw [this]
    exact R'
  · rw [if_neg (by omega), if_neg (by omega), dc_a2 e] at h
    exact Ent post h
  · rw [if_neg (by omega), if_neg (by omega), dc_a6 e] at h
    have hx1 := (w3 e).1
    have hx2 := (w3 e).2
    have ey : (120 * nI i + 10 * nI n + nI (nt_nu N n) : Int32) = nI (10 * (12 * i + n) + nt_nu N n) := by
      rw [show (120 * nI i : Int32) = nI (120 * i) from pk_mul 120 i, show (10 * nI n : Int32) = nI (10 * n) from pk_mul 10 n, nI_add, nI_add]
      exact congrArg nI (by omega)
    have vy : vp_in (120 * nI i + 10 * nI n + nI (nt_nu N n)) 720 := by rw [ey]; exact vp_in_nI (by omega) (by omega)
    refine And.intro vy (And.intro vy (nm_r (e' := upd b_times (10 * (12 * i + n) + nt_nu N n) (nI (ds_tm c (10 * (12 * i + n) + nt_nu N n) + 1))) ?_ (h _ ⟨RD, RN, ⟨RS.1, fun k hk => ?_, un_upd RS.2.2.1 rfl, RS.2.2.2⟩, yy_tm RJ (fun k hk => pk_un (by omega))⟩)))
    · rw [ey, nI_clamp (by omega), RS.2.2.1 _ (by omega), nI_1]
    · rw [RS.2.1 k hk]
      refine congrArg nI ?_
      show ds_in c k - ds_sm c k = un_U (ds_in c) (12 * i + n) (ds_in c (12 * i + n) + 1) k - sm_N (fun t => un_U (ds_tm c) (10 * (12 * i + n) + nt_nu N n) (ds_tm c (10 * (12 * i + n) + nt_nu N n) + 1) (10 * k + t)) 10
      by_cases q : k = 12 * i + n
      · subst q
        have e1 : sm_N (fun t => un_U (ds_tm c) (10 * (12 * i + n) + nt_nu N n) (ds_tm c (10 * (12 * i + n) + nt_nu N n) + 1) (10 * (12 * i + n) + t)) 10 = sm_N (un_U (fun t => ds_tm c (10 * (12 * i + n) + t)) (nt_nu N n) (ds_tm c (10 * (12 * i + n) + nt_nu N n) + 1)) 10 := by
          refine sm_eq 10 (fun t ht => ?_)
          by_cases w : t = nt_nu N n
          · subst w; rw [un_s, un_s]
          · rw [un_n w, un_n (by omega)]
        have e2 := sm_un (g := fun t => ds_tm c (10 * (12 * i + n) + t)) (x := ds_tm c (10 * (12 * i + n) + nt_nu N n) + 1) 10 (nt_nu N n) hx2
        have e3 : ds_sm c (12 * i + n) = sm_N (fun t => ds_tm c (10 * (12 * i + n) + t)) 10 := rfl
        rw [un_s, e1]
        omega
      · rw [un_n q, sm_eq 10 (h := fun t => ds_tm c (10 * k + t)) (fun t ht => un_n (by omega))]
        rfl
  · rw [if_neg (by omega), if_neg (by omega), dc_a7 e] at h
    have hl := W.2.2.1 n hn (by omega) (by omega)
    have r3 : (nI (nt_nu N n) - nI (nt_nu N n) / 3 * 3 : Int32) = nI (nt_nu N n % 3) := pk_rem (d := 3) (by omega) (by omega) (by omega)
    have ex : (3 * nI i + (nI (nt_nu N n) - nI (nt_nu N n) / 3 * 3) : Int32) = nI (3 * i + nt_nu N n % 3) := by rw [r3]; exact ix_m 3 i _
    have d3 : (nI (nt_nu N n) / 3 : Int32) = nI (nt_nu N n / 3) := pk_div (d := 3) (by omega) (by omega) (by omega)
    have vx : vp_in (3 * nI i + (nI (nt_nu N n) - nI (nt_nu N n) / 3 * 3)) 18 := by rw [ex]; exact vp_in_nI (by omega) (by omega)
    refine And.intro ix_30 (And.intro vx (And.intro ix_30 (And.intro vx (nm_r (e' := upd b_variables (3 * i + nt_nu N n % 3) (ds_va c (3 * i + nt_nu N n % 3) + (nI (nt_nu N n / 3) - 4))) ?_ (yl_pass (m := 1) W.1 (c := dc_set c i (nt_nu N n)) ⟨RD, RN, ⟨RS.1, RS.2.1, RS.2.2.1, ?_, RS.2.2.2.2⟩, yy_va RJ (fun k hk => pk_un (by omega))⟩ hi (by omega) hl rfl (yy_all (fun b_kind b_number b_from b_to b_cond b_nodes b_flows b_variables b_on b_in b_times b_stored b_clock b_acts b_reached R => h _ R)))))))
    · rw [ex, nI_clamp (by omega), d3, RS.2.2.2.1 _ (by omega)]
    · intro k hk
      show upd b_variables _ _ k = upd (ds_va c) _ _ k
      by_cases e : k = 3 * i + nt_nu N n % 3
      · subst e; rw [pk_us, pk_us]
      · rw [pk_un e, pk_un e]; exact RS.2.2.2.1 k hk
  · rw [if_neg (by omega), if_neg (by omega), dc_a8 e] at h
    have hl := W.2.2.1 n hn (by omega) (by omega)
    exact yl_send W I (by omega) R' (w4 e) (yy_all (fun b_kind b_number b_from b_to b_cond b_nodes b_flows b_variables b_on b_in b_times b_stored b_clock b_acts b_reached R => yl_pass (m := 1) W.1 R hi (by omega) hl rfl (yy_all (fun b_kind b_number b_from b_to b_cond b_nodes b_flows b_variables b_on b_in b_times b_stored b_clock b_acts b_reached R => h _ R))))
  · rw [if_neg (by omega), if_neg (by omega), dc_a9 e] at h
    have hl := W.2.2.1 n hn (by omega) (by omega)
    have hm := w5 e
    have vm : vp_in (nI (nt_nu N n)) 6 := vp_in_nI (by omega) (by omega)
    have km : (nI (nt_nu N n)).toNatClampNeg = nt_nu N n := nI_clamp (by omega)
    have es : b_stored (nI (nt_nu N n)).toNatClampNeg = nI (ds_st c (nt_nu N n)) := by rw [km]; exact RS.2.2.2.2.1 _ hm
    have s9 : ds_st c (nt_nu N n) ≤ 9 := I.2.2.2.2.2.1 _ hm
    unfold dc_rec at h
    refine And.intro vm (pk_eq (ds_st c (nt_nu N n)) 0 (fun q => ?_) (fun q => And.intro vm (And.intro vm (nm_r (e' := upd b_stored (nt_nu N n) (nI (ds_st c (nt_nu N n) - 1))) ?_ ?_))) es rfl)
    · rw [if_pos q] at h
      exact Ent post h
    · rw [es, km]
      exact congrArg _ (pk_sub (b := 1) (by omega))
    · rw [if_neg q] at h
      exact yl_pass (m := 1) W.1 (c := dc_st c (un_U (ds_st c) (nt_nu N n) (ds_st c (nt_nu N n) - 1))) ⟨RD, RN, ⟨RS.1, RS.2.1, RS.2.2.1, RS.2.2.2.1, un_upd RS.2.2.2.2.1 rfl, RS.2.2.2.2.2⟩, yy_st RJ (fun k hk => pk_un (by omega))⟩ hi (by omega) hl rfl (yy_all (fun b_kind b_number b_from b_to b_cond b_nodes b_flows b_variables b_on b_in b_times b_stored b_clock b_acts b_reached R => h _ R))
  · rw [if_neg (by omega), if_neg (by omega), dc_a10 e] at h
    exact yl_empty R' hi (yy_all (fun b_kind b_number b_from b_to b_cond b_nodes b_flows b_variables b_on b_in b_times b_stored b_clock b_acts b_reached R => h _ R))
end
section
/-! Y: act and first; the invariant under an act -/
theorem ic_tk {N : NT} {B : Nat} {c : DS} {i : Nat} {S : Nat → Bool} (I : ic_C N B c) : ∀ m, ic_C N B (dc_tk c i S m) := by
  intro m
  induction m with
  | zero => exact I
  | succ m ih =>
    by_cases e : S m = true
    · rw [dc_tkT e]; exact ic_take ih
    · rw [dc_tkF e]; exact ih
theorem dc_F4 {N : NT} {c : DS} {i n : Nat} (h : nt_ki N n = 4 ∨ nt_ki N n = 5) : dc_act N c i n = dc_fin N (dc_tk c i (ds_he N c i n) (nt_f N)) i n := by
  unfold dc_fin
  rcases h with h | h
  · rw [dc_b4 h, if_pos h]
  · rw [dc_b5 h, if_neg (by omega), if_pos h]
theorem dc_F0 {N : NT} {c : DS} {i n : Nat} (h4 : nt_ki N n ≠ 4) (h5 : nt_ki N n ≠ 5) : dc_act N c i n = dc_fin N (dc_take c i (sr_L (ds_he N c i n) (nt_f N))) i n := by
  unfold dc_fin
  rw [dc_b0 h4 h5, if_neg h4, if_neg h5]
theorem yl_a80 {post : SY → Prop} {J : Int32 → Int32 → (Nat → Int32) → (Nat → Int32) → (Nat → Int32) → (Nat → Int32) → (Nat → Int32) → (Nat → Int32) → (Nat → Int32) → (Nat → Int32) → (Nat → Int32) → (Nat → Int32) → (Nat → Int32) → (Nat → Int32) → (Nat → Int32) → (Nat → Int32) → (Nat → Int32) → Prop} {N D : NT} {c j : DS} {i f : Nat} {x2 x3 x4 : Int32} {b_kind b_number b_from b_to b_cond b_nodes b_flows b_variables b_on b_in b_times b_stored b_clock b_acts b_reached : Nat → Int32} (R : yy_R N D c j (b_kind, b_number, b_from, b_to, b_cond, b_nodes, b_flows, b_variables, b_on, b_in, b_times, b_stored, b_clock, b_acts, b_reached)) (hi : i < 3) (hf : f < 20) (h0 : 0 < ds_on c (20 * i + f))
    (h : yy_R N D (dc_take c i f) j (b_kind, b_number, b_from, b_to, b_cond, b_nodes, b_flows, b_variables, upd b_on (20 * i + f) (nI (ds_on c (20 * i + f) - 1)), b_in, b_times, b_stored, b_clock, b_acts, b_reached) → J 1 (nI (f + 1)) b_kind b_number b_from b_to b_cond b_nodes b_flows b_variables (upd b_on (20 * i + f) (nI (ds_on c (20 * i + f) - 1))) b_in b_times b_stored b_clock b_acts b_reached) : wY_act_80 post J (nI i) x2 x3 x4 (nI f) b_kind b_number b_from b_to b_cond b_nodes b_flows b_variables b_on b_in b_times b_stored b_clock b_acts b_reached := by
  have ex : (20 * nI i + nI f : Int32) = nI (20 * i + f) := ix_m 20 i f
  have v : vp_in (20 * nI i + nI f) 120 := by rw [ex]; exact vp_in_nI (by omega) (by omega)
  refine And.intro v (And.intro v (nm_r ?_ (nm_r (nI_1 f) (h (yl_takeR R hi hf)))))
  rw [ex, nI_clamp (by omega), R.2.2.1.1 _ (by omega)]
  exact congrArg _ (pk_sub (b := 1) h0)
theorem yl_a30A {post : SY → Prop} {N D : NT} {B : Nat} {c j : DS} {i n : Nat} (W : nt_W N) (I : ic_C N B c) (hB : B < 2 ^ 30) (hi : i < 3) (hn : n < nt_n N) (h : ∀ v', yy_R N D (dc_fin N (dc_tk c i (ds_he N c i n) (nt_f N)) i n) j v' → post v') :
    ∀ d f x5 {b_kind b_number b_from b_to b_cond b_nodes b_flows b_variables b_on b_in b_times b_stored b_clock b_acts b_reached : Nat → Int32}, f + d = nt_f N → yy_R N D (dc_tk c i (ds_he N c i n) f) j (b_kind, b_number, b_from, b_to, b_cond, b_nodes, b_flows, b_variables, b_on, b_in, b_times, b_stored, b_clock, b_acts, b_reached) → wY_act_30 post (nI i) (nI n) (nI (nt_ki N n)) 1 (d + 1) x5 (nI f) b_kind b_number b_from b_to b_cond b_nodes b_flows b_variables b_on b_in b_times b_stored b_clock b_acts b_reached := by
  have W12 := W.1.1
  have W20 := W.1.2.1
  intro d
  induction d with
  | zero =>
    intro f x5 b_kind b_number b_from b_to b_cond b_nodes b_flows b_variables b_on b_in b_times b_stored b_clock b_acts b_reached hd R
    have : f = nt_f N := by omega
    subst this
    exact yl_a30e W (ic_tk I _) hB R hi hn h
  | succ d ih =>
    intro f x5 b_kind b_number b_from b_to b_cond b_nodes b_flows b_variables b_on b_in b_times b_stored b_clock b_acts b_reached hd R
    have kf : (nI f).toNatClampNeg = f := nI_clamp (by omega)
    have et : b_to (nI f).toNatClampNeg = nI (nt_to N f) := by rw [kf]; exact R.2.1.2.2.2.2.2.1 f (by omega)
    have hff := (W.1.2.2.1 f (by omega)).2
    have ex : (20 * nI i + nI f : Int32) = nI (20 * i + f) := ix_m 20 i f
    have v : vp_in (20 * nI i + nI f) 120 := by rw [ex]; exact vp_in_nI (by omega) (by omega)
    have o : ds_on (dc_tk c i (ds_he N c i n) f) (20 * i + f) = ds_on c (20 * i + f) := by rw [dc_tkO, if_neg (by omega)]; rfl
    have b2 := ic_on I hi (show f < 20 by omega)
    have sF : ¬ ds_he N c i n f = true → wY_act_30 post (nI i) (nI n) (nI (nt_ki N n)) 1 (d + 1) x5 (nI (f + 1)) b_kind b_number b_from b_to b_cond b_nodes b_flows b_variables b_on b_in b_times b_stored b_clock b_acts b_reached := fun q => ih (f + 1) x5 (by omega) (by rw [dc_tkF q]; exact R)
    have eo : b_on (20 * nI i + nI f).toNatClampNeg = nI (ds_on c (20 * i + f)) := by
      rw [ex, nI_clamp (by omega), R.2.2.1.1 _ (by omega), o]
    have sT : ds_he N c i n f = true → wY_act_80 post (wY_act_30 post (nI i) (nI n) (nI (nt_ki N n)) 1 (d + 1)) (nI i) (nI n) (nI (nt_ki N n)) 1 (nI f) b_kind b_number b_from b_to b_cond b_nodes b_flows b_variables b_on b_in b_times b_stored b_clock b_acts b_reached := fun q => yl_a80 R hi (by omega) (by rw [o]; exact (ds_hei.mp q).2) (fun R' => ih (f + 1) 1 (by omega) (by rw [dc_tkT q]; exact R'))
    rw [wY_act_30]
    refine br_f (by rw [R.2.1.2.1]; exact nI_ge (by omega) (by omega)) (And.intro (vp_in_nI (by omega) (by omega)) (pk_eq (nt_to N f) n (fun e => And.intro v (pk_eq (ds_on c (20 * i + f)) 0 (fun q => nm_r (nI_1 f) (sF (fun w => ?_))) (fun q => br_c (fun _ => sT ?_) (fun _ => br_f ix_10 (sT ?_))) eo rfl)) (fun e => nm_r (nI_1 f) (sF (fun w => e (ds_hei.mp w).1))) et rfl))
    · have := (ds_hei.mp w).2
      unfold ds_P at this
      omega
    · exact ds_hei.mpr ⟨e, by unfold ds_P; omega⟩
    · exact ds_hei.mpr ⟨e, by unfold ds_P; omega⟩
theorem yl_a30C {post : SY → Prop} {N D : NT} {B : Nat} {c j : DS} {i n : Nat} {b_kind b_number b_from b_to b_cond b_nodes b_flows b_variables b_on b_in b_times b_stored b_clock b_acts b_reached : Nat → Int32} (W : nt_W N) (I : ic_C N B c) (hB : B < 2 ^ 30) (hi : i < 3) (hn : n < nt_n N) (R : yy_R N D c j (b_kind, b_number, b_from, b_to, b_cond, b_nodes, b_flows, b_variables, b_on, b_in, b_times, b_stored, b_clock, b_acts, b_reached)) (h : ∀ v', yy_R N D (dc_fin N c i n) j v' → post v') :
    ∀ d f, f + d = nt_f N → wY_act_30 post (nI i) (nI n) (nI (nt_ki N n)) 0 (d + 1) 1 (nI f) b_kind b_number b_from b_to b_cond b_nodes b_flows b_variables b_on b_in b_times b_stored b_clock b_acts b_reached := by
  have W12 := W.1.1
  have W20 := W.1.2.1
  intro d
  induction d with
  | zero =>
    intro f hd
    have : f = nt_f N := by omega
    subst this
    exact yl_a30e W I hB R hi hn h
  | succ d ih =>
    intro f hd
    have ex : (20 * nI i + nI f : Int32) = nI (20 * i + f) := ix_m 20 i f
    have v : vp_in (20 * nI i + nI f) 120 := by rw [ex]; exact vp_in_nI (by omega) (by omega)
    rw [wY_act_30]
    exact br_f (by rw [R.2.1.2.1]; exact nI_ge (by omega) (by omega)) (And.intro (vp_in_nI (by omega) (by omega)) (br_c (fun _ => And.intro v (br_c (fun _ => nm_r (nI_1 f) (ih (f + 1) (by omega))) (fun _ => br_f ix_10 (br_t rfl (nm_r (nI_1 f) (ih (f + 1) (by omega))))))) (fun _ => nm_r (nI_1 f) (ih (f + 1) (by omega)))))
theorem yl_a30B {post : SY → Prop} {N D : NT} {B : Nat} {c j : DS} {i n : Nat} {b_kind b_number b_from b_to b_cond b_nodes b_flows b_variables b_on b_in b_times b_stored b_clock b_acts b_reached : Nat → Int32} (W : nt_W N) (I : ic_C N B c) (hB : B < 2 ^ 30) (hi : i < 3) (hn : n < nt_n N) (he : ∃ f, f < nt_f N ∧ ds_he N c i n f = true) (R : yy_R N D c j (b_kind, b_number, b_from, b_to, b_cond, b_nodes, b_flows, b_variables, b_on, b_in, b_times, b_stored, b_clock, b_acts, b_reached)) (h : ∀ v', yy_R N D (dc_fin N (dc_take c i (sr_L (ds_he N c i n) (nt_f N))) i n) j v' → post v') :
    ∀ d f, f + d = nt_f N → (∀ e, e < f → ds_he N c i n e = false) → wY_act_30 post (nI i) (nI n) (nI (nt_ki N n)) 0 (d + 1) 0 (nI f) b_kind b_number b_from b_to b_cond b_nodes b_flows b_variables b_on b_in b_times b_stored b_clock b_acts b_reached := by
  have W12 := W.1.1
  have W20 := W.1.2.1
  intro d
  induction d with
  | zero =>
    intro f hd hf
    obtain ⟨f', a, b⟩ := he
    rw [hf f' (by omega)] at b
    exact Bool.noConfusion b
  | succ d ih =>
    intro f hd hf
    have kf : (nI f).toNatClampNeg = f := nI_clamp (by omega)
    have et : b_to (nI f).toNatClampNeg = nI (nt_to N f) := by rw [kf]; exact R.2.1.2.2.2.2.2.1 f (by omega)
    have hff := (W.1.2.2.1 f (by omega)).2
    have ex : (20 * nI i + nI f : Int32) = nI (20 * i + f) := ix_m 20 i f
    have v : vp_in (20 * nI i + nI f) 120 := by rw [ex]; exact vp_in_nI (by omega) (by omega)
    have b2 := ic_on I hi (show f < 20 by omega)
    have sF : ¬ ds_he N c i n f = true → wY_act_30 post (nI i) (nI n) (nI (nt_ki N n)) 0 (d + 1) 0 (nI (f + 1)) b_kind b_number b_from b_to b_cond b_nodes b_flows b_variables b_on b_in b_times b_stored b_clock b_acts b_reached := fun q => ih (f + 1) (by omega) (fun e h => by
      by_cases w : e = f
      · subst w; exact Bool.eq_false_iff.mpr q
      · exact hf e (by omega))
    have eo : b_on (20 * nI i + nI f).toNatClampNeg = nI (ds_on c (20 * i + f)) := by
      rw [ex, nI_clamp (by omega), R.2.2.1.1 _ (by omega)]
    rw [wY_act_30]
    refine br_f (by rw [R.2.1.2.1]; exact nI_ge (by omega) (by omega)) (And.intro (vp_in_nI (by omega) (by omega)) (pk_eq (nt_to N f) n (fun e => And.intro v (pk_eq (ds_on c (20 * i + f)) 0 (fun q => nm_r (nI_1 f) (sF (fun w => ?_))) (fun q => br_t rfl ?_) eo rfl)) (fun e => nm_r (nI_1 f) (sF (fun w => e (ds_hei.mp w).1))) et rfl))
    · have := (ds_hei.mp w).2
      unfold ds_P at this
      omega
    · have hq : ds_he N c i n f = true := ds_hei.mpr ⟨e, by unfold ds_P; omega⟩
      rw [sr_is (by omega) hq hf] at h
      exact yl_a80 R hi (by omega) (by omega) (fun R' => yl_a30C W (ic_take I) hB hi hn R' h d (f + 1) (by omega))
theorem yl_act {post : SY → Prop} {N D : NT} {B : Nat} {c j : DS} {i n : Nat} {b_kind b_number b_from b_to b_cond b_nodes b_flows b_variables b_on b_in b_times b_stored b_clock b_acts b_reached : Nat → Int32} (W : nt_W N) (I : ic_C N B c) (hB : B < 2 ^ 30) (R : yy_R N D c j (b_kind, b_number, b_from, b_to, b_cond, b_nodes, b_flows, b_variables, b_on, b_in, b_times, b_stored, b_clock, b_acts, b_reached)) (hi : i < 3) (hn : n < nt_n N) (hc : ds_Can N c i n) (h : ∀ v', yy_R N D (dc_act N c i n) j v' → post v') : wpY_act post (b_kind, b_number, b_from, b_to, b_cond, b_nodes, b_flows, b_variables, b_on, b_in, b_times, b_stored, b_clock, b_acts, b_reached) (nI i) (nI n) := by
  have W12 := W.1.1
  have kn : (nI n).toNatClampNeg = n := nI_clamp (by omega)
  have wk := (W.1.2.2.2.1 n hn).1
  obtain ⟨f, hf, ef, pf⟩ := hc.1
  refine And.intro (vp_in_nI (by omega) (by omega)) (nm_r (e' := nI (nt_ki N n)) (by rw [kn]; exact R.2.1.2.2.1 n hn) (pk_eq (nt_ki N n) 4 (fun k4 => ⟨nt_f N + 1, ?_⟩) (fun k4 => pk_eq (nt_ki N n) 5 (fun k5 => ⟨nt_f N + 1, ?_⟩) (fun k5 => ⟨nt_f N + 1, ?_⟩))))
  · rw [dc_F4 (Or.inl k4)] at h
    exact yl_a30A W I hB hi hn h (nt_f N) 0 0 (by omega) R
  · rw [dc_F4 (Or.inr k5)] at h
    exact yl_a30A W I hB hi hn h (nt_f N) 0 0 (by omega) R
  · rw [dc_F0 k4 k5] at h
    exact yl_a30B W I hB hi hn ⟨f, hf, ds_hei.mpr ⟨ef, pf⟩⟩ R h (nt_f N) 0 (by omega) (fun e h => by omega)
theorem yl_f9 {post : Int32 → SY → Prop} {J : Int32 → (Nat → Int32) → (Nat → Int32) → (Nat → Int32) → (Nat → Int32) → (Nat → Int32) → (Nat → Int32) → (Nat → Int32) → (Nat → Int32) → (Nat → Int32) → (Nat → Int32) → (Nat → Int32) → (Nat → Int32) → (Nat → Int32) → (Nat → Int32) → (Nat → Int32) → Prop} {N D : NT} {B : Nat} {c j : DS} {i : Nat} {b_kind b_number b_from b_to b_cond b_nodes b_flows b_variables b_on b_in b_times b_stored b_clock b_acts b_reached : Nat → Int32} (W : nt_W N) (I : ic_C N B c) (hB : B < 2 ^ 31) (R : yy_R N D c j (b_kind, b_number, b_from, b_to, b_cond, b_nodes, b_flows, b_variables, b_on, b_in, b_times, b_stored, b_clock, b_acts, b_reached)) (hi : i < 3)
    (h : ∀ n, n < nt_n N → ds_Can N c i n → (∀ m, m < n → ¬ ds_Can N c i m) → ∀ r, post (nI (12 * i + n)) (b_kind, b_number, b_from, b_to, b_cond, b_nodes, b_flows, b_variables, b_on, b_in, b_times, b_stored, b_clock, b_acts, r)) (hJ : (∀ m, m < nt_n N → ¬ ds_Can N c i m) → ∀ r, J (nI (i + 1)) b_kind b_number b_from b_to b_cond b_nodes b_flows b_variables b_on b_in b_times b_stored b_clock b_acts r) :
    ∀ d n r, n + d = nt_n N → (∀ m, m < n → ¬ ds_Can N c i m) → wY_first_9 post J (nI i) (d + 1) (nI n) b_kind b_number b_from b_to b_cond b_nodes b_flows b_variables b_on b_in b_times b_stored b_clock b_acts r := by
  have W12 := W.1.1
  intro d
  induction d with
  | zero =>
    intro n r hd hl
    rw [wY_first_9]
    exact br_t (by rw [R.2.1.1]; exact nI_le (by omega) (by omega)) (nm_r (nI_1 i) (hJ (fun m hm => hl m (by omega)) r))
  | succ d ih =>
    intro n r hd hl
    have R' : yy_R N D c j (b_kind, b_number, b_from, b_to, b_cond, b_nodes, b_flows, b_variables, b_on, b_in, b_times, b_stored, b_clock, b_acts, r) := R
    rw [wY_first_9]
    refine br_f (by rw [R.2.1.1]; exact nI_ge (by omega) (by omega)) (yl_can W I hB R' hi (by omega) (fun q r' => br_f ix_10 ?_) (fun q r' => br_t rfl (nm_r (nI_1 n) (ih (n + 1) r' (by omega) (fun m hm => ?_)))))
    · rw [show (12 * nI i + nI n : Int32) = nI (12 * i + n) from ix_m 12 i n]
      exact h n (by omega) q hl r'
    · by_cases e : m = n
      · subst e; exact q
      · exact hl m (by omega)
theorem yl_f2 {post : Int32 → SY → Prop} {N D : NT} {B : Nat} {c j : DS} {b_kind b_number b_from b_to b_cond b_nodes b_flows b_variables b_on b_in b_times b_stored b_clock b_acts b_reached : Nat → Int32} (W : nt_W N) (I : ic_C N B c) (hB : B < 2 ^ 31) (R : yy_R N D c j (b_kind, b_number, b_from, b_to, b_cond, b_nodes, b_flows, b_variables, b_on, b_in, b_times, b_stored, b_clock, b_acts, b_reached))
    (h : ∀ i n, i < 3 → n < nt_n N → ds_Can N c i n → (∀ m, m < n → ¬ ds_Can N c i m) → (∀ i', i' < i → ∀ m, m < nt_n N → ¬ ds_Can N c i' m) → ∀ r, post (nI (12 * i + n)) (b_kind, b_number, b_from, b_to, b_cond, b_nodes, b_flows, b_variables, b_on, b_in, b_times, b_stored, b_clock, b_acts, r)) (h0 : (∀ i, i < 3 → ∀ m, m < nt_n N → ¬ ds_Can N c i m) → ∀ r, post (-1) (b_kind, b_number, b_from, b_to, b_cond, b_nodes, b_flows, b_variables, b_on, b_in, b_times, b_stored, b_clock, b_acts, r)) :
    ∀ d i r, i + d = 3 → (∀ i', i' < i → ∀ m, m < nt_n N → ¬ ds_Can N c i' m) → wY_first_2 post (d + 1) (nI i) b_kind b_number b_from b_to b_cond b_nodes b_flows b_variables b_on b_in b_times b_stored b_clock b_acts r := by
  intro d
  induction d with
  | zero =>
    intro i r hd hl
    rw [wY_first_2]
    exact br_t (nI_le (a := 3) (by omega) (by omega)) (h0 (fun i' h => hl i' (by omega)) r)
  | succ d ih =>
    intro i r hd hl
    rw [wY_first_2]
    refine br_f (nI_ge (b := 3) (by omega) (by omega)) ⟨nt_n N + 1, yl_f9 W I hB R (by omega) (fun n a b e => h i n (by omega) a b e hl) (fun q r' => ih (i + 1) r' (by omega) (fun i' h => ?_)) (nt_n N) 0 r (by omega) (fun m hm => by omega)⟩
    by_cases e : i' = i
    · subst e; exact q
    · exact hl i' (by omega)
theorem yl_first {post : Int32 → SY → Prop} {N D : NT} {B : Nat} {c j : DS} {b_kind b_number b_from b_to b_cond b_nodes b_flows b_variables b_on b_in b_times b_stored b_clock b_acts b_reached : Nat → Int32} (W : nt_W N) (I : ic_C N B c) (hB : B < 2 ^ 31) (R : yy_R N D c j (b_kind, b_number, b_from, b_to, b_cond, b_nodes, b_flows, b_variables, b_on, b_in, b_times, b_stored, b_clock, b_acts, b_reached))
    (h : ∀ i n, i < 3 → n < nt_n N → ds_Can N c i n → (∀ m, m < n → ¬ ds_Can N c i m) → (∀ i', i' < i → ∀ m, m < nt_n N → ¬ ds_Can N c i' m) → ∀ r, post (nI (12 * i + n)) (b_kind, b_number, b_from, b_to, b_cond, b_nodes, b_flows, b_variables, b_on, b_in, b_times, b_stored, b_clock, b_acts, r)) (h0 : (∀ i, i < 3 → ∀ m, m < nt_n N → ¬ ds_Can N c i m) → ∀ r, post (-1) (b_kind, b_number, b_from, b_to, b_cond, b_nodes, b_flows, b_variables, b_on, b_in, b_times, b_stored, b_clock, b_acts, r)) : wpY_first post (b_kind, b_number, b_from, b_to, b_cond, b_nodes, b_flows, b_variables, b_on, b_in, b_times, b_stored, b_clock, b_acts, b_reached) :=
  ⟨4, yl_f2 W I hB R h h0 3 0 b_reached (by omega) (fun i' h => by omega)⟩
end
section
/-! the invariant under the parts of an act -/
theorem ic_sp {N : NT} {B : Nat} {c : DS} {i : Nat} {S : Nat → Bool} (W : nt_D N) (hi : i < 3) (I : ic_C N B c) : ic_C N (B + 1) (dc_sp c i S (nt_f N)) := by
  have W20 := W.2.1
  have o := dc_spO (c := c) (i := i) (S := S) (nt_f N)
  have e2 := dc_sp2 (c := c) (i := i) (S := S) (nt_f N)
  generalize dc_sp c i S (nt_f N) = c' at o e2
  have I' := ic_up I (Nat.le_succ B)
  have e3 : ds_in c' = ds_in c := congrArg Prod.fst e2
  have e4 : ds_tm c' = ds_tm c := congrArg (fun p => p.2.1) e2
  have e5 : ds_st c' = ds_st c := congrArg (fun p => p.2.2.2.1) e2
  have e6 : ds_ck c' = ds_ck c := congrArg (fun p => p.2.2.2.2.1) e2
  have e7 : ds_ac c' = ds_ac c := congrArg (fun p => p.2.2.2.2.2) e2
  refine ⟨fun i' f h1 h2 h3 => ?_, fun i' f h1 h2 => ?_, ?_, ?_, ?_, ?_, ?_, ?_⟩
  · rw [o, if_neg (by omega), I.1 i' f h1 h2 h3]
  · rw [o, e3]
    have := I.2.1 i' f h1 h2
    by_cases q : 20 * i ≤ 20 * i' + f ∧ 20 * i' + f < 20 * i + nt_f N ∧ S (20 * i' + f - 20 * i) = true
    · rw [if_pos q]; omega
    · rw [if_neg q]; omega
  · rw [e3]; exact I'.2.2.1
  · rw [e4]; exact I'.2.2.2.1
  · intro i' n h1 h2 h3
    unfold ds_sm
    rw [e3, e4]; exact I'.2.2.2.2.1 i' n h1 h2 h3
  · rw [e5]; exact I'.2.2.2.2.2.1
  · rw [e6]; exact I'.2.2.2.2.2.2.1
  · rw [e7]; exact I'.2.2.2.2.2.2.2
theorem ic_put {N : NT} {B : Nat} {c : DS} {i f : Nat} (W : nt_D N) (hi : i < 3) (hf : f < nt_f N) (I : ic_C N B c) : ic_C N (B + 1) (dc_put c i f) := by
  rw [← dc_sp1 hf]
  exact ic_sp W hi I
theorem ic_ent {N : NT} {B : Nat} {c : DS} {i n : Nat} (W : nt_D N) (hi : i < 3) (hn : n < nt_n N) (hk : nt_ki N n = 2 ∨ nt_ki N n = 9) (I : ic_C N B c) : ic_C N (B + 1) (dc_ent c i n) := by
  have W12 := W.1
  have I' := ic_up I (Nat.le_succ B)
  have o : ∀ k, ds_in (dc_ent c i n) k = un_U (ds_in c) (12 * i + n) (ds_in c (12 * i + n) + 1) k := fun _ => rfl
  refine ⟨I.1, fun i' f h1 h2 => ?_, fun i' m h1 h2 h3 => ?_, I.2.2.2.1, fun i' m h1 h2 h3 => ?_, I'.2.2.2.2.2⟩
  · have a := I.2.1 i' f h1 h2
    show ds_on c (20 * i' + f) + _ ≤ _
    rw [o]
    by_cases q : 12 * i' + nt_fr N f = 12 * i + n
    · rw [q, un_s]; rw [q] at a; omega
    · rw [un_n q]; omega
  · rw [o] at h3
    by_cases q : 12 * i' + m = 12 * i + n
    · have : m = n := by omega
      subst this
      exact ⟨hn, by omega⟩
    · rw [un_n q] at h3
      exact I.2.2.1 i' m h1 h2 h3
  · rw [o]
    have : ¬ 12 * i' + m = 12 * i + n := fun q => by
      have : m = n := by omega
      subst this
      omega
    rw [un_n this]
    exact I.2.2.2.2.1 i' m h1 h2 h3
theorem ds_smT {c : DS} {i n x : Nat} (hx : x < 10) : ∀ k, ds_sm (dc_tmr c i n x) k = if k = 12 * i + n then ds_sm c k + 1 else ds_sm c k := by
  intro k
  show sm_N (fun t => un_U (ds_tm c) (10 * (12 * i + n) + x) (ds_tm c (10 * (12 * i + n) + x) + 1) (10 * k + t)) 10 = _
  by_cases q : k = 12 * i + n
  · subst q
    have e1 : sm_N (fun t => un_U (ds_tm c) (10 * (12 * i + n) + x) (ds_tm c (10 * (12 * i + n) + x) + 1) (10 * (12 * i + n) + t)) 10 = sm_N (un_U (fun t => ds_tm c (10 * (12 * i + n) + t)) x (ds_tm c (10 * (12 * i + n) + x) + 1)) 10 := by
      refine sm_eq 10 (fun t ht => ?_)
      by_cases w : t = x
      · subst w; rw [un_s, un_s]
      · rw [un_n w, un_n (by omega)]
    have e2 := sm_un (g := fun t => ds_tm c (10 * (12 * i + n) + t)) (x := ds_tm c (10 * (12 * i + n) + x) + 1) 10 x hx
    have e3 : ds_sm c (12 * i + n) = sm_N (fun t => ds_tm c (10 * (12 * i + n) + t)) 10 := rfl
    rw [e1, if_pos rfl]
    omega
  · rw [if_neg q]
    exact sm_eq 10 (fun t ht => un_n (by omega))
theorem ic_tmr {N : NT} {B : Nat} {c : DS} {i n : Nat} (W : nt_D N) (hi : i < 3) (hn : n < nt_n N) (hk : nt_ki N n = 6) (I : ic_C N B c) : ic_C N (B + 1) (dc_tmr (dc_ent c i n) i n (nt_nu N n)) := by
  have W12 := W.1
  obtain ⟨x1, x2⟩ := (W.2.2.2.1 n hn).2.2.1 hk
  have I' := ic_up I (Nat.le_succ B)
  have o : ∀ k, ds_in (dc_tmr (dc_ent c i n) i n (nt_nu N n)) k = un_U (ds_in c) (12 * i + n) (ds_in c (12 * i + n) + 1) k := fun _ => rfl
  have ot : ∀ k, ds_tm (dc_tmr (dc_ent c i n) i n (nt_nu N n)) k = un_U (ds_tm c) (10 * (12 * i + n) + nt_nu N n) (ds_tm c (10 * (12 * i + n) + nt_nu N n) + 1) k := fun _ => rfl
  have os := ds_smT (c := dc_ent c i n) (i := i) (n := n) x2
  refine ⟨I.1, fun i' f h1 h2 => ?_, fun i' m h1 h2 h3 => ?_, fun i' m t h1 h2 ht h3 => ?_, fun i' m h1 h2 h3 => ?_, I'.2.2.2.2.2⟩
  · have a := I.2.1 i' f h1 h2
    show ds_on c (20 * i' + f) + _ ≤ _
    rw [o]
    by_cases q : 12 * i' + nt_fr N f = 12 * i + n
    · rw [q, un_s]; rw [q] at a; omega
    · rw [un_n q]; omega
  · rw [o] at h3
    by_cases q : 12 * i' + m = 12 * i + n
    · have : m = n := by omega
      subst this
      exact ⟨hn, by omega⟩
    · rw [un_n q] at h3
      exact I.2.2.1 i' m h1 h2 h3
  · rw [ot] at h3
    by_cases q : 10 * (12 * i' + m) + t = 10 * (12 * i + n) + nt_nu N n
    · have : m = n := by omega
      subst this
      have : t = nt_nu N m := by omega
      exact ⟨hn, hk, by omega⟩
    · rw [un_n q] at h3
      exact I.2.2.2.1 i' m t h1 h2 ht h3
  · have a := I.2.2.2.2.1 i' m h1 h2 h3
    have e0 : ds_sm (dc_ent c i n) (12 * i' + m) = ds_sm c (12 * i' + m) := rfl
    rw [o, os, e0]
    by_cases q : 12 * i' + m = 12 * i + n
    · rw [if_pos q, q, un_s]; rw [q] at a; omega
    · rw [if_neg q, un_n q]; exact a
theorem ic_gon {N : NT} {B : Nat} {c : DS} {i n : Nat} (W : nt_W N) (hi : i < 3) (hn : n < nt_n N) (hk : nt_ki N n = 2 ∨ nt_ki N n = 9) (h0 : 0 < ds_in c (12 * i + n)) (I : ic_C N B c) : ic_C N B (dc_gon N c i n) := by
  have W12 := W.1.1
  have W20 := W.1.2.1
  obtain ⟨l1, l2, l3⟩ := nt_lvE (W.2.2.1 n hn (by omega) (by omega))
  have o : ∀ k, ds_in (dc_gon N c i n) k = un_U (ds_in c) (12 * i + n) (ds_in c (12 * i + n) - 1) k := fun _ => rfl
  have oo : ∀ k, ds_on (dc_gon N c i n) k = un_U (ds_on c) (20 * i + nt_lv N n) (ds_on c (20 * i + nt_lv N n) + 1) k := fun _ => rfl
  refine ⟨fun i' f h1 h2 h3 => ?_, fun i' f h1 h2 => ?_, fun i' m h1 h2 h3 => ?_, I.2.2.2.1, fun i' m h1 h2 h3 => ?_, I.2.2.2.2.2⟩
  · rw [oo, un_n (by omega)]; exact I.1 i' f h1 h2 h3
  · have a := I.2.1 i' f h1 h2
    have hf := (W.1.2.2.1 f h2).1
    rw [oo, o]
    by_cases q : 20 * i' + f = 20 * i + nt_lv N n
    · have e1 : f = nt_lv N n := by omega
      have e2 : i' = i := by omega
      subst e2
      rw [q, un_s]
      rw [e1, l2] at a ⊢
      rw [un_s]
      omega
    · rw [un_n q]
      by_cases r : 12 * i' + nt_fr N f = 12 * i + n
      · rw [r, un_s]; rw [r] at a; omega
      · rw [un_n r]; exact a
  · rw [o] at h3
    by_cases q : 12 * i' + m = 12 * i + n
    · have : m = n := by omega
      subst this
      exact ⟨hn, by omega⟩
    · rw [un_n q] at h3
      exact I.2.2.1 i' m h1 h2 h3
  · rw [o]
    have : ¬ 12 * i' + m = 12 * i + n := fun q => by
      have : m = n := by omega
      subst this
      omega
    rw [un_n this]
    exact I.2.2.2.2.1 i' m h1 h2 h3
theorem ic_st {N : NT} {B m x : Nat} {c : DS} (hx : x ≤ 9) (I : ic_C N B c) : ic_C N B (dc_st c (un_U (ds_st c) m x)) := by
  refine ⟨I.1, I.2.1, I.2.2.1, I.2.2.2.1, I.2.2.2.2.1, fun q hq => ?_, I.2.2.2.2.2.2⟩
  show un_U (ds_st c) m x q ≤ 9
  by_cases e : q = m
  · subst e; rw [un_s]; exact hx
  · rw [un_n e]; exact I.2.2.2.2.2.1 q hq
theorem ic_send {N : NT} {B m : Nat} {c : DS} (W : nt_W N) (I : ic_C N B c) : ic_C N B (dc_send N c m) := by
  have W12 := W.1.1
  unfold dc_send
  by_cases q : sr_L (ds_sd N c m) 36 < 36
  · rw [if_pos q]
    have a := sr_hit (ds_sd N c m) 36 0 (by unfold sr_L at q; omega)
    have a' : ds_sd N c m (sr_L (ds_sd N c m) 36) = true := a
    generalize sr_L (ds_sd N c m) 36 = s at q a'
    have e : s = 12 * (s / 12) + s % 12 := by omega
    rw [e] at a'
    obtain ⟨b1, b2, b3, b4⟩ := (ds_sdi (by omega)).mp a'
    exact ic_gon W (by omega) b1 (Or.inr b2) b4 I
  · rw [if_neg q]
    by_cases r : ds_st c m < 9
    · rw [if_pos r]; exact ic_st (by omega) I
    · rw [if_neg r]; exact I
theorem ic_rec {N : NT} {B i n : Nat} {c : DS} (W : nt_W N) (hi : i < 3) (hn : n < nt_n N) (hk : nt_ki N n = 9) (I : ic_C N B c) : ic_C N (B + 1) (dc_rec N c i n) := by
  unfold dc_rec
  by_cases q : ds_st c (nt_nu N n) = 0
  · rw [if_pos q]; exact ic_ent W.1 hi hn (Or.inr hk) I
  · rw [if_neg q]
    have hm := (W.1.2.2.2.1 n hn).2.2.2.2 hk
    have := I.2.2.2.2.2.1 _ hm
    exact ic_put W.1 hi (nt_lvE (W.2.2.1 n hn (by omega) (by omega))).1 (ic_st (by omega) I)
theorem ic_emp {N : NT} {B i : Nat} {c : DS} (W : nt_D N) (I : ic_C N B c) : ic_C N B (dc_emp c i) := by
  have W12 := W.1
  have W20 := W.2.1
  have o1 : ∀ k, ds_on (dc_emp c i) k = if 20 * i ≤ k ∧ k < 20 * i + 20 then 0 else ds_on c k := fun _ => rfl
  have o2 : ∀ k, ds_in (dc_emp c i) k = if 12 * i ≤ k ∧ k < 12 * i + 12 then 0 else ds_in c k := fun _ => rfl
  have o3 : ∀ k, ds_tm (dc_emp c i) k = if 120 * i ≤ k ∧ k < 120 * i + 120 then 0 else ds_tm c k := fun _ => rfl
  have le1 : ∀ k, ds_on (dc_emp c i) k ≤ ds_on c k := fun k => by
    rw [o1]
    by_cases q : 20 * i ≤ k ∧ k < 20 * i + 20
    · rw [if_pos q]; exact Nat.zero_le _
    · rw [if_neg q]; exact Nat.le_refl _
  have le2 : ∀ k, ds_in (dc_emp c i) k ≤ ds_in c k := fun k => by
    rw [o2]
    by_cases q : 12 * i ≤ k ∧ k < 12 * i + 12
    · rw [if_pos q]; exact Nat.zero_le _
    · rw [if_neg q]; exact Nat.le_refl _
  have le3 : ∀ k, ds_tm (dc_emp c i) k ≤ ds_tm c k := fun k => by
    rw [o3]
    by_cases q : 120 * i ≤ k ∧ k < 120 * i + 120
    · rw [if_pos q]; exact Nat.zero_le _
    · rw [if_neg q]; exact Nat.le_refl _
  refine ⟨fun i' f h1 h2 h3 => ?_, fun i' f h1 h2 => ?_, fun i' m h1 h2 h3 => ?_, fun i' m t h1 h2 ht h3 => ?_, fun i' m h1 h2 h3 => ?_, I.2.2.2.2.2⟩
  · have := I.1 i' f h1 h2 h3
    have := le1 (20 * i' + f)
    omega
  · exact Nat.le_trans (Nat.add_le_add (le1 _) (le2 _)) (I.2.1 i' f h1 h2)
  · exact I.2.2.1 i' m h1 h2 (Nat.lt_of_lt_of_le h3 (le2 _))
  · exact I.2.2.2.1 i' m t h1 h2 ht (Nat.lt_of_lt_of_le h3 (le3 _))
  · rw [o2]
    by_cases q : 12 * i ≤ 12 * i' + m ∧ 12 * i' + m < 12 * i + 12
    · rw [if_pos q]
      refine (sm_0 10 (fun t ht => ?_)).symm
      show ds_tm (dc_emp c i) (10 * (12 * i' + m) + t) = 0
      rw [o3, if_pos (by omega)]
    · rw [if_neg q, I.2.2.2.2.1 i' m h1 h2 h3]
      refine sm_eq 10 (fun t ht => ?_)
      show _ = ds_tm (dc_emp c i) (10 * (12 * i' + m) + t)
      rw [o3, if_neg (by omega)]
theorem ic_cbl {N : NT} {c : DS} {i n : Nat} (hl : ∃ f, f < nt_f N ∧ nt_fr N f = n) : sr_L (ds_cb N c i n) (nt_f N) < nt_f N := by
  refine (sr_ex ?_).1
  by_cases q : ds_an N c i n
  · obtain ⟨e, h1, h2⟩ := q
    exact ⟨e, h1, ds_cbi.mp (Or.inl ⟨⟨e, h1, h2⟩, h2⟩)⟩
  · exact ⟨nt_la N n, (nt_laE hl).1, ds_cbi.mp (Or.inr ⟨q, rfl⟩)⟩
theorem ic_act1 {N : NT} {B i n : Nat} {c : DS} (W : nt_W N) (hi : i < 3) (hn : n < nt_n N) (I : ic_C N B c) : ic_C N (B + 1) (dc_act1 N c i n) := by
  have I' := ic_up I (Nat.le_succ B)
  unfold dc_act1
  by_cases k2 : nt_ki N n = 2
  · rw [if_pos k2]; exact ic_ent W.1 hi hn (Or.inl k2) I
  rw [if_neg k2]
  by_cases k3 : nt_ki N n = 3
  · rw [if_pos k3]; exact ic_put W.1 hi (ic_cbl (W.2.2.1 n hn (by omega) (by omega))) I
  rw [if_neg k3]
  by_cases k6 : nt_ki N n = 6
  · rw [if_pos k6]; exact ic_tmr W.1 hi hn k6 I
  rw [if_neg k6]
  by_cases k7 : nt_ki N n = 7
  · rw [if_pos k7]; exact ic_put W.1 hi (nt_lvE (W.2.2.1 n hn (by omega) (by omega))).1 (c := dc_set c i (nt_nu N n)) I
  rw [if_neg k7]
  by_cases k8 : nt_ki N n = 8
  · rw [if_pos k8]; exact ic_put W.1 hi (nt_lvE (W.2.2.1 n hn (by omega) (by omega))).1 (ic_send W I)
  rw [if_neg k8]
  by_cases k9 : nt_ki N n = 9
  · rw [if_pos k9]; exact ic_rec W hi hn k9 I
  rw [if_neg k9]
  by_cases k10 : nt_ki N n = 10
  · rw [if_pos k10]; exact ic_emp W.1 I'
  rw [if_neg k10]
  exact I'
theorem ic_act {N : NT} {B i n : Nat} {c : DS} (W : nt_W N) (hi : i < 3) (hn : n < nt_n N) (I : ic_C N B c) : ic_C N (B + 1) (dc_act N c i n) := by
  by_cases k4 : nt_ki N n = 4
  · rw [dc_b4 k4]; exact ic_sp W.1 hi (ic_tk I _)
  by_cases k5 : nt_ki N n = 5
  · rw [dc_b5 k5]; exact ic_sp W.1 hi (ic_tk I _)
  rw [dc_b0 k4 k5]
  exact ic_act1 W hi hn (ic_take I)
theorem ic_ac {N : NT} {B a : Nat} {c : DS} (h : a ≤ B) (I : ic_C N B c) : ic_C N B (dc_ac c a) := ⟨I.1, I.2.1, I.2.2.1, I.2.2.2.1, I.2.2.2.2.1, I.2.2.2.2.2.1, I.2.2.2.2.2.2.1, h⟩
/-! acts are counted apart -/
theorem da_sp {c : DS} {i a : Nat} {S : Nat → Bool} : ∀ m, dc_sp (dc_ac c a) i S m = dc_ac (dc_sp c i S m) a := by
  intro m
  induction m with
  | zero => rfl
  | succ m ih =>
    by_cases e : S m = true
    · rw [dc_spT e, dc_spT e, ih]; rfl
    · rw [dc_spF e, dc_spF e, ih]
theorem da_tk {c : DS} {i a : Nat} {S : Nat → Bool} : ∀ m, dc_tk (dc_ac c a) i S m = dc_ac (dc_tk c i S m) a := by
  intro m
  induction m with
  | zero => rfl
  | succ m ih =>
    by_cases e : S m = true
    · rw [dc_tkT e, dc_tkT e, ih]; rfl
    · rw [dc_tkF e, dc_tkF e, ih]
theorem da_send {N : NT} {c : DS} {m a : Nat} : dc_send N (dc_ac c a) m = dc_ac (dc_send N c m) a := by
  have e : ds_sd N (dc_ac c a) m = ds_sd N c m := rfl
  have e2 : ds_st (dc_ac c a) = ds_st c := rfl
  unfold dc_send
  rw [e, e2]
  by_cases q : sr_L (ds_sd N c m) 36 < 36
  · rw [if_pos q, if_pos q]; rfl
  · rw [if_neg q, if_neg q]
    by_cases r : ds_st c m < 9
    · rw [if_pos r, if_pos r]; rfl
    · rw [if_neg r, if_neg r]
theorem da_rec {N : NT} {c : DS} {i n a : Nat} : dc_rec N (dc_ac c a) i n = dc_ac (dc_rec N c i n) a := by
  have e2 : ds_st (dc_ac c a) = ds_st c := rfl
  unfold dc_rec
  rw [e2]
  by_cases r : ds_st c (nt_nu N n) = 0
  · rw [if_pos r, if_pos r]; rfl
  · rw [if_neg r, if_neg r]; rfl
theorem da_act1 {N : NT} {c : DS} {i n a : Nat} : dc_act1 N (dc_ac c a) i n = dc_ac (dc_act1 N c i n) a := by
  have e : ds_cb N (dc_ac c a) i n = ds_cb N c i n := rfl
  unfold dc_act1
  rw [e, da_send, da_rec]
  by_cases k2 : nt_ki N n = 2
  · rw [if_pos k2, if_pos k2]; rfl
  rw [if_neg k2, if_neg k2]
  by_cases k3 : nt_ki N n = 3
  · rw [if_pos k3, if_pos k3]; rfl
  rw [if_neg k3, if_neg k3]
  by_cases k6 : nt_ki N n = 6
  · rw [if_pos k6, if_pos k6]; rfl
  rw [if_neg k6, if_neg k6]
  by_cases k7 : nt_ki N n = 7
  · rw [if_pos k7, if_pos k7]; rfl
  rw [if_neg k7, if_neg k7]
  by_cases k8 : nt_ki N n = 8
  · rw [if_pos k8, if_pos k8]; rfl
  rw [if_neg k8, if_neg k8]
  by_cases k9 : nt_ki N n = 9
  · rw [if_pos k9, if_pos k9]
  rw [if_neg k9, if_neg k9]
  by_cases k10 : nt_ki N n = 10
  · rw [if_pos k10, if_pos k10]; rfl
  rw [if_neg k10, if_neg k10]
theorem da_act {N : NT} {c : DS} {i n a : Nat} : dc_act N (dc_ac c a) i n = dc_ac (dc_act N c i n) a := by
  have e : ds_he N (dc_ac c a) i n = ds_he N c i n := rfl
  by_cases k4 : nt_ki N n = 4
  · rw [dc_b4 k4, dc_b4 k4, e, da_tk, da_sp]
  by_cases k5 : nt_ki N n = 5
  · rw [dc_b5 k5, dc_b5 k5, e, da_tk, da_sp]
    rfl
  rw [dc_b0 k4 k5, dc_b0 k4 k5, e]
  exact da_act1 (c := dc_take c i (sr_L (ds_he N c i n) (nt_f N)))
theorem da_id {c : DS} : dc_ac c (ds_ac c) = c := rfl
theorem da_ac {N : NT} {c : DS} {i n : Nat} : ds_ac (dc_act N c i n) = ds_ac c := by
  have := da_act (N := N) (c := c) (i := i) (n := n) (a := ds_ac c)
  rw [da_id] at this
  rw [this]
  rfl
end
section
/-! work -/
def wk_No (N : NT) (c : DS) (i : Nat) : Prop := ∀ i', i' < i → ∀ m, m < nt_n N → ¬ ds_Can N c i' m
theorem xl_w4 {post : Int32 → SX → Prop} {J : Int32 → Int32 → Int32 → Int32 → Int32 → Int32 → Int32 → (Nat → Int32) → (Nat → Int32) → (Nat → Int32) → (Nat → Int32) → (Nat → Int32) → (Nat → Int32) → (Nat → Int32) → (Nat → Int32) → (Nat → Int32) → (Nat → Int32) → (Nat → Int32) → (Nat → Int32) → (Nat → Int32) → (Nat → Int32) → (Nat → Int32) → (Nat → Int32) → (Nat → Int32) → (Nat → Int32) → (Nat → Int32) → (Nat → Int32) → (Nat → Int32) → (Nat → Int32) → (Nat → Int32) → Prop}
    {N D : NT} {B : Nat} {c j : DS} {x1 : Int32} (W : nt_W N) (I : ic_C N B c)
    (K0 : wk_No N c 3 → ∀ {f_dNodes f_dFlows f_nodes f_flows f_clock f_acts : Int32} {a_dKind a_dNumber a_dFrom a_dTo a_dWhen a_kind a_number a_from a_to a_when a_comes a_leaves a_reached a_onFlow a_inNode a_ring a_variable a_marked a_holding a_ables a_known a_stored a_journal : Nat → Int32}, xx_R N D c j (f_dNodes, f_dFlows, f_nodes, f_flows, f_clock, f_acts, a_dKind, a_dNumber, a_dFrom, a_dTo, a_dWhen, a_kind, a_number, a_from, a_to, a_when, a_comes, a_leaves, a_reached, a_onFlow, a_inNode, a_ring, a_variable, a_marked, a_holding, a_ables, a_known, a_stored, a_journal) → wX_work_23 post J x1 (nI 3) f_dNodes f_dFlows f_nodes f_flows f_clock f_acts a_dKind a_dNumber a_dFrom a_dTo a_dWhen a_kind a_number a_from a_to a_when a_comes a_leaves a_reached a_onFlow a_inNode a_ring a_variable a_marked a_holding a_ables a_known a_stored a_journal)
    (K1 : ∀ i, i < 3 → wk_No N c i → ∀ {f_dNodes f_dFlows f_nodes f_flows f_clock f_acts : Int32} {a_dKind a_dNumber a_dFrom a_dTo a_dWhen a_kind a_number a_from a_to a_when a_comes a_leaves a_reached a_onFlow a_inNode a_ring a_variable a_marked a_holding a_ables a_known a_stored a_journal : Nat → Int32}, xx_R N D c j (f_dNodes, f_dFlows, f_nodes, f_flows, f_clock, f_acts, a_dKind, a_dNumber, a_dFrom, a_dTo, a_dWhen, a_kind, a_number, a_from, a_to, a_when, a_comes, a_leaves, a_reached, a_onFlow, a_inNode, a_ring, a_variable, a_marked, a_holding, a_ables, a_known, a_stored, a_journal) → bm_S (a_ables i) (fun n => n < nt_n N ∧ ds_Can N c i n) → (∃ n, n < nt_n N ∧ ds_Can N c i n) → wX_work_23 post J x1 (nI i) f_dNodes f_dFlows f_nodes f_flows f_clock f_acts a_dKind a_dNumber a_dFrom a_dTo a_dWhen a_kind a_number a_from a_to a_when a_comes a_leaves a_reached a_onFlow a_inNode a_ring a_variable a_marked a_holding a_ables a_known a_stored a_journal) :
    ∀ d i {f_dNodes f_dFlows f_nodes f_flows f_clock f_acts : Int32} {a_dKind a_dNumber a_dFrom a_dTo a_dWhen a_kind a_number a_from a_to a_when a_comes a_leaves a_reached a_onFlow a_inNode a_ring a_variable a_marked a_holding a_ables a_known a_stored a_journal : Nat → Int32}, i + d = 3 → wk_No N c i → xx_R N D c j (f_dNodes, f_dFlows, f_nodes, f_flows, f_clock, f_acts, a_dKind, a_dNumber, a_dFrom, a_dTo, a_dWhen, a_kind, a_number, a_from, a_to, a_when, a_comes, a_leaves, a_reached, a_onFlow, a_inNode, a_ring, a_variable, a_marked, a_holding, a_ables, a_known, a_stored, a_journal) → wX_work_4 post J x1 (d + 1) (nI i) f_dNodes f_dFlows f_nodes f_flows f_clock f_acts a_dKind a_dNumber a_dFrom a_dTo a_dWhen a_kind a_number a_from a_to a_when a_comes a_leaves a_reached a_onFlow a_inNode a_ring a_variable a_marked a_holding a_ables a_known a_stored a_journal := by
  intro d
  induction d with
  | zero =>
    intro i f_dNodes f_dFlows f_nodes f_flows f_clock f_acts a_dKind a_dNumber a_dFrom a_dTo a_dWhen a_kind a_number a_from a_to a_when a_comes a_leaves a_reached a_onFlow a_inNode a_ring a_variable a_marked a_holding a_ables a_known a_stored a_journal hd hl R
    have : i = 3 := by omega
    subst this
    rw [wX_work_4]
    exact br_t (nI_le (Nat.le_refl _) (by omega)) (K0 hl R)
  | succ d ih =>
    intro i f_dNodes f_dFlows f_nodes f_flows f_clock f_acts a_dKind a_dNumber a_dFrom a_dTo a_dWhen a_kind a_number a_from a_to a_when a_comes a_leaves a_reached a_onFlow a_inNode a_ring a_variable a_marked a_holding a_ables a_known a_stored a_journal hd hl R
    rw [wX_work_4]
    refine br_f (nI_ge (b := 3) (by omega) (by omega)) (xl_ableNodes W I R (by omega) (fun r => xx_all (fun f_dNodes f_dFlows f_nodes f_flows f_clock f_acts a_dKind a_dNumber a_dFrom a_dTo a_dWhen a_kind a_number a_from a_to a_when a_comes a_leaves a_reached a_onFlow a_inNode a_ring a_variable a_marked a_holding a_ables a_known a_stored a_journal hb R ha => br_c (fun z => nm_r (nI_1 i) (ih (i + 1) (by omega) (fun i' h m hm hc => ?_) R)) (fun z => K1 i (by omega) hl R (by have e : a_ables i = r := ha; rw [e]; exact hb) ?_))))
    · by_cases e : i' = i
      · subst e
        exact (bm_eq0 hb).mp z m (by have := W.1.1; omega) ⟨hm, hc⟩
      · exact hl i' (by omega) m hm hc
    · obtain ⟨n, _, q⟩ := (bm_ne0 hb).mp z
      exact ⟨n, q⟩
theorem ix_120 : ¬ (12 : Int32) = 0 := by decide
theorem ix_m1n : (-1 : Int32) < 0 := by decide
theorem wk_both {N D : NT} {j : DS} (W : nt_W N) : ∀ d B c done, ic_C N B c → B + 2 * d < 2 ^ 26 → done + d = 60 → ∃ r c', ic_C N (B + 2 * d) c' ∧
    (∀ post : Int32 → SX → Prop, (∀ u', xx_R N D c' j u' → post r u') → ∀ m {f_dNodes f_dFlows f_nodes f_flows f_clock f_acts : Int32} {a_dKind a_dNumber a_dFrom a_dTo a_dWhen a_kind a_number a_from a_to a_when a_comes a_leaves a_reached a_onFlow a_inNode a_ring a_variable a_marked a_holding a_ables a_known a_stored a_journal : Nat → Int32}, d < m → xx_R N D c j (f_dNodes, f_dFlows, f_nodes, f_flows, f_clock, f_acts, a_dKind, a_dNumber, a_dFrom, a_dTo, a_dWhen, a_kind, a_number, a_from, a_to, a_when, a_comes, a_leaves, a_reached, a_onFlow, a_inNode, a_ring, a_variable, a_marked, a_holding, a_ables, a_known, a_stored, a_journal) → wX_work_2 post m (nI done) f_dNodes f_dFlows f_nodes f_flows f_clock f_acts a_dKind a_dNumber a_dFrom a_dTo a_dWhen a_kind a_number a_from a_to a_when a_comes a_leaves a_reached a_onFlow a_inNode a_ring a_variable a_marked a_holding a_ables a_known a_stored a_journal) ∧
    (∀ post : Int32 → SY → Prop, (∀ v', yy_R N D c' j v' → post r v') → ∀ m (Q : Int32 → SY → Prop), (∀ r' {b_kind b_number b_from b_to b_cond b_nodes b_flows b_variables b_on b_in b_times b_stored b_clock b_acts b_reached : Nat → Int32}, wY_work_7 post m (nI done) r' b_kind b_number b_from b_to b_cond b_nodes b_flows b_variables b_on b_in b_times b_stored b_clock b_acts b_reached → Q r' (b_kind, b_number, b_from, b_to, b_cond, b_nodes, b_flows, b_variables, b_on, b_in, b_times, b_stored, b_clock, b_acts, b_reached)) → ∀ {b_kind b_number b_from b_to b_cond b_nodes b_flows b_variables b_on b_in b_times b_stored b_clock b_acts b_reached : Nat → Int32}, d < m → yy_R N D c j (b_kind, b_number, b_from, b_to, b_cond, b_nodes, b_flows, b_variables, b_on, b_in, b_times, b_stored, b_clock, b_acts, b_reached) → wpY_first Q (b_kind, b_number, b_from, b_to, b_cond, b_nodes, b_flows, b_variables, b_on, b_in, b_times, b_stored, b_clock, b_acts, b_reached)) := by
  have W12 := W.1.1
  intro d
  induction d with
  | zero =>
    intro B c done I hB hd
    have : done = 60 := by omega
    subst this
    by_cases e : wk_No N c 3
    · refine ⟨nI 60, c, I, ?_, ?_⟩
      · intro post h m f_dNodes f_dFlows f_nodes f_flows f_clock f_acts a_dKind a_dNumber a_dFrom a_dTo a_dWhen a_kind a_number a_from a_to a_when a_comes a_leaves a_reached a_onFlow a_inNode a_ring a_variable a_marked a_holding a_ables a_known a_stored a_journal hm R
        obtain ⟨m, rfl⟩ : ∃ m', m = m' + 1 := ⟨m - 1, by omega⟩
        rw [wX_work_2]
        exact ⟨4, xl_w4 W I (fun _ f_dNodes f_dFlows f_nodes f_flows f_clock f_acts a_dKind a_dNumber a_dFrom a_dTo a_dWhen a_kind a_number a_from a_to a_when a_comes a_leaves a_reached a_onFlow a_inNode a_ring a_variable a_marked a_holding a_ables a_known a_stored a_journal R => br_t rfl (h _ R)) (fun i hi _ f_dNodes f_dFlows f_nodes f_flows f_clock f_acts a_dKind a_dNumber a_dFrom a_dTo a_dWhen a_kind a_number a_from a_to a_when a_comes a_leaves a_reached a_onFlow a_inNode a_ring a_variable a_marked a_holding a_ables a_known a_stored a_journal _ _ ⟨n, h1, h2⟩ => absurd h2 (e i hi n h1)) 3 0 (by omega) (fun i' h => by omega) R⟩
      · intro post h m Q hQ b_kind b_number b_from b_to b_cond b_nodes b_flows b_variables b_on b_in b_times b_stored b_clock b_acts b_reached hm R
        obtain ⟨m, rfl⟩ : ∃ m', m = m' + 1 := ⟨m - 1, by omega⟩
        refine yl_first W I (by omega) R (fun i n a b e2 _ _ => absurd e2 (e i a n b)) (fun _ r => hQ (-1) ?_)
        rw [wY_work_7]
        exact br_t ix_m1n (br_t ix_m1n (h _ R))
    · refine ⟨-4, c, I, ?_, ?_⟩
      · intro post h m f_dNodes f_dFlows f_nodes f_flows f_clock f_acts a_dKind a_dNumber a_dFrom a_dTo a_dWhen a_kind a_number a_from a_to a_when a_comes a_leaves a_reached a_onFlow a_inNode a_ring a_variable a_marked a_holding a_ables a_known a_stored a_journal hm R
        obtain ⟨m, rfl⟩ : ∃ m', m = m' + 1 := ⟨m - 1, by omega⟩
        rw [wX_work_2]
        refine ⟨4, xl_w4 W I (fun z => absurd z e) (fun i hi _ f_dNodes f_dFlows f_nodes f_flows f_clock f_acts a_dKind a_dNumber a_dFrom a_dTo a_dWhen a_kind a_number a_from a_to a_when a_comes a_leaves a_reached a_onFlow a_inNode a_ring a_variable a_marked a_holding a_ables a_known a_stored a_journal R _ _ => ?_) 3 0 (by omega) (fun i' h => by omega) R⟩
        exact pk_eq i 3 (fun z => absurd z (by omega)) (fun _ => br_t rfl (h _ R))
      · intro post h m Q hQ b_kind b_number b_from b_to b_cond b_nodes b_flows b_variables b_on b_in b_times b_stored b_clock b_acts b_reached hm R
        obtain ⟨m, rfl⟩ : ∃ m', m = m' + 1 := ⟨m - 1, by omega⟩
        refine yl_first W I (by omega) R (fun i n a b e2 _ _ r => hQ (nI (12 * i + n)) ?_) (fun z => absurd z e)
        rw [wY_work_7]
        exact br_f (nI_pos (by omega)) (br_t (nI_le (Nat.le_refl _) (by omega)) (br_f (nI_pos (by omega)) (h _ R)))
  | succ d ih =>
    intro B c done I hB hd
    by_cases e : wk_No N c 3
    · refine ⟨nI done, c, ic_up I (by omega), ?_, ?_⟩
      · intro post h m f_dNodes f_dFlows f_nodes f_flows f_clock f_acts a_dKind a_dNumber a_dFrom a_dTo a_dWhen a_kind a_number a_from a_to a_when a_comes a_leaves a_reached a_onFlow a_inNode a_ring a_variable a_marked a_holding a_ables a_known a_stored a_journal hm R
        obtain ⟨m, rfl⟩ : ∃ m', m = m' + 1 := ⟨m - 1, by omega⟩
        rw [wX_work_2]
        exact ⟨4, xl_w4 W I (fun _ f_dNodes f_dFlows f_nodes f_flows f_clock f_acts a_dKind a_dNumber a_dFrom a_dTo a_dWhen a_kind a_number a_from a_to a_when a_comes a_leaves a_reached a_onFlow a_inNode a_ring a_variable a_marked a_holding a_ables a_known a_stored a_journal R => br_t rfl (h _ R)) (fun i hi _ f_dNodes f_dFlows f_nodes f_flows f_clock f_acts a_dKind a_dNumber a_dFrom a_dTo a_dWhen a_kind a_number a_from a_to a_when a_comes a_leaves a_reached a_onFlow a_inNode a_ring a_variable a_marked a_holding a_ables a_known a_stored a_journal _ _ ⟨n, h1, h2⟩ => absurd h2 (e i hi n h1)) 3 0 (by omega) (fun i' h => by omega) R⟩
      · intro post h m Q hQ b_kind b_number b_from b_to b_cond b_nodes b_flows b_variables b_on b_in b_times b_stored b_clock b_acts b_reached hm R
        obtain ⟨m, rfl⟩ : ∃ m', m = m' + 1 := ⟨m - 1, by omega⟩
        refine yl_first W I (by omega) R (fun i n a b e2 _ _ => absurd e2 (e i a n b)) (fun _ r => hQ (-1) ?_)
        rw [wY_work_7]
        exact br_t ix_m1n (br_t ix_m1n (h _ R))
    · obtain ⟨i, ⟨hi, n', hn', hc'⟩, hl⟩ := pk_least (fun i => i < 3 ∧ ∃ n, n < nt_n N ∧ ds_Can N c i n) (Classical.byContradiction (fun z => e (fun i hi m hm hc => z ⟨i, hi, m, hm, hc⟩)))
      obtain ⟨n, ⟨hn, hc⟩, hln⟩ := pk_least (fun n => n < nt_n N ∧ ds_Can N c i n) ⟨n', hn', hc'⟩
      have hno : wk_No N c i := fun i' h m hm q => hl i' h ⟨by omega, m, hm, q⟩
      have acb := I.2.2.2.2.2.2.2
      have I1 : ic_C N (B + 1) (dc_ac c (ds_ac c + 1)) := ic_ac (by omega) (ic_up I (Nat.le_succ B))
      have I2 : ic_C N (B + 2) (dc_act N (dc_ac c (ds_ac c + 1)) i n) := ic_act W hi hn I1
      obtain ⟨r, c', J0, JX, JY⟩ := ih (B + 2) (dc_act N (dc_ac c (ds_ac c + 1)) i n) (done + 1) I2 (by omega) (by omega)
      refine ⟨r, c', ic_up J0 (by omega), ?_, ?_⟩
      · intro post h m f_dNodes f_dFlows f_nodes f_flows f_clock f_acts a_dKind a_dNumber a_dFrom a_dTo a_dWhen a_kind a_number a_from a_to a_when a_comes a_leaves a_reached a_onFlow a_inNode a_ring a_variable a_marked a_holding a_ables a_known a_stored a_journal hm R
        obtain ⟨m, rfl⟩ : ∃ m', m = m' + 1 := ⟨m - 1, by omega⟩
        rw [wX_work_2]
        refine ⟨4, xl_w4 W I (fun z => absurd z e) (fun i' hi' hno' f_dNodes f_dFlows f_nodes f_flows f_clock f_acts a_dKind a_dNumber a_dFrom a_dTo a_dWhen a_kind a_number a_from a_to a_when a_comes a_leaves a_reached a_onFlow a_inNode a_ring a_variable a_marked a_holding a_ables a_known a_stored a_journal R hb ⟨n2, q1, q2⟩ => ?_) 3 0 (by omega) (fun i' h => by omega) R⟩
        have ei : i' = i := by
          rcases Nat.lt_trichotomy i' i with z | z | z
          · exact absurd q2 (hno i' z n2 q1)
          · exact z
          · exact absurd hc (hno' i z n hn)
        subst ei
        have ki : (nI i').toNatClampNeg = i' := nI_clamp (by omega)
        have ea : f_acts = nI (ds_ac c) := R.2.2.1.2.2.2.2.2.2
        refine pk_eq i' 3 (fun z => absurd z (by omega)) (fun _ => pk_eq done 60 (fun z => absurd z (by omega)) (fun _ => pk_eq (ds_ac c) 100000000 (fun z => absurd z (by omega)) (fun _ => And.intro (vp_in_nI hi' (by omega)) ?_) ea rfl))
        rw [ki]
        refine xl_least hb ⟨n, by omega, hn, hc⟩ (fun f _ pf hlf => ?_)
        have ef : f = n := by
          rcases Nat.lt_trichotomy f n with z | z | z
          · exact absurd pf (hln f z)
          · exact z
          · exact absurd ⟨hn, hc⟩ (hlf n z)
        subst ef
        exact xl_act W I (by omega) R hi hn hc (xx_all (fun f_dNodes f_dFlows f_nodes f_flows f_clock f_acts a_dKind a_dNumber a_dFrom a_dTo a_dWhen a_kind a_number a_from a_to a_when a_comes a_leaves a_reached a_onFlow a_inNode a_ring a_variable a_marked a_holding a_ables a_known a_stored a_journal R => nm_r (nI_1 done) (JX post h m (by omega) R)))
      · intro post h m Q hQ b_kind b_number b_from b_to b_cond b_nodes b_flows b_variables b_on b_in b_times b_stored b_clock b_acts b_reached hm R
        obtain ⟨m, rfl⟩ : ∃ m', m = m' + 1 := ⟨m - 1, by omega⟩
        refine yl_first W I (by omega) R (fun i' n2 a b q1 q2 q3 r' => hQ (nI (12 * i' + n2)) ?_) (fun z => absurd z e)
        have ei : i' = i := by
          rcases Nat.lt_trichotomy i' i with z | z | z
          · exact absurd q1 (hno i' z n2 b)
          · exact z
          · exact absurd hc (q3 i z n hn)
        subst ei
        have en : n2 = n := by
          rcases Nat.lt_trichotomy n2 n with z | z | z
          · exact absurd ⟨b, q1⟩ (hln n2 z)
          · exact z
          · exact absurd hc (q2 n z)
        subst en
        have ea : b_acts 0 = nI (ds_ac c) := R.2.2.1.2.2.2.2.2.2
        have d12 : (nI (12 * i' + n2) / 12 : Int32) = nI i' := by
          have := pk_div (a := 12 * i' + n2) (d := 12) (by omega) (by omega) (by omega)
          rw [show (12 * i' + n2) / 12 = i' from by omega] at this
          exact this
        have r12 : (nI (12 * i' + n2) - nI (12 * i' + n2) / 12 * 12 : Int32) = nI n2 := by
          have := pk_rem (a := 12 * i' + n2) (d := 12) (by omega) (by omega) (by omega)
          rw [show (12 * i' + n2) % 12 = n2 from by omega] at this
          exact this
        rw [wY_work_7]
        refine br_f (nI_pos (by omega)) (pk_le 60 done (fun z => absurd z (by omega)) (fun _ => pk_le 100000000 (ds_ac c) (fun z => absurd z (by omega)) (fun _ => And.intro ix_120 (And.intro ix_120 ?_)) rfl ea))
        rw [r12, d12]
        have R1 : yy_R N D c j (b_kind, b_number, b_from, b_to, b_cond, b_nodes, b_flows, b_variables, b_on, b_in, b_times, b_stored, b_clock, b_acts, r') := R
        refine yl_act W I (by omega) R1 hi hn hc (yy_all (fun b_kind b_number b_from b_to b_cond b_nodes b_flows b_variables b_on b_in b_times b_stored b_clock b_acts b_reached R => nm_r (nI_1 done) (nm_r (e' := upd b_acts 0 (nI (ds_ac c + 1))) ?_ (JY post h m _ (fun r' b_kind b_number b_from b_to b_cond b_nodes b_flows b_variables b_on b_in b_times b_stored b_clock b_acts b_reached z => z) (by omega) ?_))))
        · rw [show b_acts 0 = nI (ds_ac c) from by rw [← da_ac (N := N) (c := c) (i := i') (n := n2)]; exact R.2.2.1.2.2.2.2.2.2, nI_1]
        · rw [da_act]
          exact ⟨R.1, R.2.1, ⟨R.2.2.1.1, R.2.2.1.2.1, R.2.2.1.2.2.1, R.2.2.1.2.2.2.1, R.2.2.1.2.2.2.2.1, R.2.2.1.2.2.2.2.2.1, pk_us⟩, R.2.2.2⟩
end
section
/-! X: exchange (printed by gen16.py) -/
def cp_F (F a : Nat → Int32) (x : Nat) : Nat → Int32 := fun q => if q < x then F q else a q
theorem cp_0 {F a : Nat → Int32} : cp_F F a 0 = a := by
  funext q
  exact if_neg (by omega)
theorem cp_s {F a : Nat → Int32} {x : Nat} : upd (cp_F F a x) x (F x) = cp_F F a (x + 1) := by
  funext q
  unfold cp_F
  by_cases e : q = x
  · subst e
    rw [pk_us, if_pos (by omega)]
  · rw [pk_un e]
    by_cases z : q < x
    · rw [if_pos z, if_pos (by omega)]
    · rw [if_neg z, if_neg (by omega)]
theorem cp_lt {F a : Nat → Int32} {x q : Nat} (h : q < x) : cp_F F a x q = F q := if_pos h
theorem xe0_185 {post : SX → Prop} {f_dNodes f_dFlows f_nodes f_flows f_clock f_acts : Int32} {a_dKind a_dNumber a_dFrom a_dTo a_dWhen a_kind a_number a_from a_to a_when a_comes a_leaves a_reached a_onFlow a_inNode a_ring a_variable a_marked a_holding a_ables a_known a_stored : Nat → Int32} {F jr : Nat → Int32} (h1 : F 468 = f_clock) (h2 : F 469 = f_acts) (hF : ∀ x, x < 3 → F (465 + x) = a_stored x) (K : post (f_dNodes, f_dFlows, f_nodes, f_flows, f_clock, f_acts, a_dKind, a_dNumber, a_dFrom, a_dTo, a_dWhen, a_kind, a_number, a_from, a_to, a_when, a_comes, a_leaves, a_reached, a_onFlow, a_inNode, a_ring, a_variable, a_marked, a_holding, a_ables, a_known, a_stored, cp_F F jr 470)) :
    ∀ d x a, x + d = 3 → a = cp_F F jr (465 + x) → wX_exchange_185 post 0 f_dNodes f_dFlows f_nodes f_flows f_clock f_acts (d + 1) (nI (465 + x)) (nI x) a_dKind a_dNumber a_dFrom a_dTo a_dWhen a_kind a_number a_from a_to a_when a_comes a_leaves a_reached a_onFlow a_inNode a_ring a_variable a_marked a_holding a_ables a_known a_stored a := by
  intro d
  induction d with
  | zero =>
    intro x a hx ea
    have : x = 3 := by omega
    subst this
    subst ea
    rw [wX_exchange_185]
    refine br_t (nI_le (Nat.le_refl _) (by omega)) (br_t rfl (And.intro (vp_in_nI (n := 468) (by omega) (by omega)) (nm_r (e' := cp_F F jr 469) ?_ (And.intro (vp_in_nI (n := 469) (by omega) (by omega)) (nm_r (e' := cp_F F jr 470) ?_ K)))))
    · rw [← h1, show (nI (465 + 3)).toNatClampNeg = 468 from nI_clamp (by omega)]; exact cp_s
    · rw [← h2, show (nI (465 + 3) + 1 : Int32) = nI 469 from nI_1 468, show (nI 469).toNatClampNeg = 469 from nI_clamp (by omega)]; exact cp_s
  | succ d ih =>
    intro x a hx ea
    subst ea
    have k2 : (nI (465 + x)).toNatClampNeg = 465 + x := nI_clamp (by omega)
    have k3 : (nI x).toNatClampNeg = x := nI_clamp (by omega)
    rw [wX_exchange_185]
    refine br_f (nI_ge (b := 3) (by omega) (by omega)) (br_t rfl (nm_r (e' := nI (465 + (x + 1))) (nI_1 _) (And.intro (vp_in_nI (by omega) (by omega)) (And.intro (vp_in_nI (by omega) (by omega)) (nm_r (e' := cp_F F jr (465 + (x + 1))) ?_ (nm_r (nI_1 x) (ih (x + 1) _ (by omega) rfl)))))))
    rw [k2, k3, ← hF x (by omega)]
    exact cp_s
theorem xe0_140 {post : SX → Prop} {f_dNodes f_dFlows f_nodes f_flows f_clock f_acts : Int32} {a_dKind a_dNumber a_dFrom a_dTo a_dWhen a_kind a_number a_from a_to a_when a_comes a_leaves a_reached a_onFlow a_inNode a_ring a_variable a_marked a_holding a_ables a_known a_stored : Nat → Int32} {F jr : Nat → Int32} (hF : ∀ x, x < 9 → F (456 + x) = a_variable x) (K : ∃ n, wX_exchange_185 post 0 f_dNodes f_dFlows f_nodes f_flows f_clock f_acts n (nI 465) 0 a_dKind a_dNumber a_dFrom a_dTo a_dWhen a_kind a_number a_from a_to a_when a_comes a_leaves a_reached a_onFlow a_inNode a_ring a_variable a_marked a_holding a_ables a_known a_stored (cp_F F jr 465)) :
    ∀ d x a, x + d = 9 → a = cp_F F jr (456 + x) → wX_exchange_140 post 0 f_dNodes f_dFlows f_nodes f_flows f_clock f_acts (d + 1) (nI (456 + x)) (nI x) a_dKind a_dNumber a_dFrom a_dTo a_dWhen a_kind a_number a_from a_to a_when a_comes a_leaves a_reached a_onFlow a_inNode a_ring a_variable a_marked a_holding a_ables a_known a_stored a := by
  intro d
  induction d with
  | zero =>
    intro x a hx ea
    have : x = 9 := by omega
    subst this
    subst ea
    rw [wX_exchange_140]
    exact br_t (nI_le (Nat.le_refl _) (by omega)) K
  | succ d ih =>
    intro x a hx ea
    subst ea
    have k2 : (nI (456 + x)).toNatClampNeg = 456 + x := nI_clamp (by omega)
    have k3 : (nI x).toNatClampNeg = x := nI_clamp (by omega)
    rw [wX_exchange_140]
    refine br_f (nI_ge (b := 9) (by omega) (by omega)) (br_t rfl (nm_r (e' := nI (456 + (x + 1))) (nI_1 _) (And.intro (vp_in_nI (by omega) (by omega)) (And.intro (vp_in_nI (by omega) (by omega)) (nm_r (e' := cp_F F jr (456 + (x + 1))) ?_ (nm_r (nI_1 x) (ih (x + 1) _ (by omega) rfl)))))))
    rw [k2, k3, ← hF x (by omega)]
    exact cp_s
theorem xe0_94 {post : SX → Prop} {f_dNodes f_dFlows f_nodes f_flows f_clock f_acts : Int32} {a_dKind a_dNumber a_dFrom a_dTo a_dWhen a_kind a_number a_from a_to a_when a_comes a_leaves a_reached a_onFlow a_inNode a_ring a_variable a_marked a_holding a_ables a_known a_stored : Nat → Int32} {F jr : Nat → Int32} (hF : ∀ x, x < 360 → F (96 + x) = a_ring x) (K : ∃ n, wX_exchange_140 post 0 f_dNodes f_dFlows f_nodes f_flows f_clock f_acts n (nI 456) 0 a_dKind a_dNumber a_dFrom a_dTo a_dWhen a_kind a_number a_from a_to a_when a_comes a_leaves a_reached a_onFlow a_inNode a_ring a_variable a_marked a_holding a_ables a_known a_stored (cp_F F jr 456)) :
    ∀ d x a, x + d = 360 → a = cp_F F jr (96 + x) → wX_exchange_94 post 0 f_dNodes f_dFlows f_nodes f_flows f_clock f_acts (d + 1) (nI (96 + x)) (nI x) a_dKind a_dNumber a_dFrom a_dTo a_dWhen a_kind a_number a_from a_to a_when a_comes a_leaves a_reached a_onFlow a_inNode a_ring a_variable a_marked a_holding a_ables a_known a_stored a := by
  intro d
  induction d with
  | zero =>
    intro x a hx ea
    have : x = 360 := by omega
    subst this
    subst ea
    rw [wX_exchange_94]
    exact br_t (nI_le (Nat.le_refl _) (by omega)) K
  | succ d ih =>
    intro x a hx ea
    subst ea
    have k2 : (nI (96 + x)).toNatClampNeg = 96 + x := nI_clamp (by omega)
    have k3 : (nI x).toNatClampNeg = x := nI_clamp (by omega)
    rw [wX_exchange_94]
    refine br_f (nI_ge (b := 360) (by omega) (by omega)) (br_t rfl (nm_r (e' := nI (96 + (x + 1))) (nI_1 _) (And.intro (vp_in_nI (by omega) (by omega)) (And.intro (vp_in_nI (by omega) (by omega)) (nm_r (e' := cp_F F jr (96 + (x + 1))) ?_ (nm_r (nI_1 x) (ih (x + 1) _ (by omega) rfl)))))))
    rw [k2, k3, ← hF x (by omega)]
    exact cp_s
theorem xe0_49 {post : SX → Prop} {f_dNodes f_dFlows f_nodes f_flows f_clock f_acts : Int32} {a_dKind a_dNumber a_dFrom a_dTo a_dWhen a_kind a_number a_from a_to a_when a_comes a_leaves a_reached a_onFlow a_inNode a_ring a_variable a_marked a_holding a_ables a_known a_stored : Nat → Int32} {F jr : Nat → Int32} (hF : ∀ x, x < 36 → F (60 + x) = a_inNode x) (K : ∃ n, wX_exchange_94 post 0 f_dNodes f_dFlows f_nodes f_flows f_clock f_acts n (nI 96) 0 a_dKind a_dNumber a_dFrom a_dTo a_dWhen a_kind a_number a_from a_to a_when a_comes a_leaves a_reached a_onFlow a_inNode a_ring a_variable a_marked a_holding a_ables a_known a_stored (cp_F F jr 96)) :
    ∀ d x a, x + d = 36 → a = cp_F F jr (60 + x) → wX_exchange_49 post 0 f_dNodes f_dFlows f_nodes f_flows f_clock f_acts (d + 1) (nI (60 + x)) (nI x) a_dKind a_dNumber a_dFrom a_dTo a_dWhen a_kind a_number a_from a_to a_when a_comes a_leaves a_reached a_onFlow a_inNode a_ring a_variable a_marked a_holding a_ables a_known a_stored a := by
  intro d
  induction d with
  | zero =>
    intro x a hx ea
    have : x = 36 := by omega
    subst this
    subst ea
    rw [wX_exchange_49]
    exact br_t (nI_le (Nat.le_refl _) (by omega)) K
  | succ d ih =>
    intro x a hx ea
    subst ea
    have k2 : (nI (60 + x)).toNatClampNeg = 60 + x := nI_clamp (by omega)
    have k3 : (nI x).toNatClampNeg = x := nI_clamp (by omega)
    rw [wX_exchange_49]
    refine br_f (nI_ge (b := 36) (by omega) (by omega)) (br_t rfl (nm_r (e' := nI (60 + (x + 1))) (nI_1 _) (And.intro (vp_in_nI (by omega) (by omega)) (And.intro (vp_in_nI (by omega) (by omega)) (nm_r (e' := cp_F F jr (60 + (x + 1))) ?_ (nm_r (nI_1 x) (ih (x + 1) _ (by omega) rfl)))))))
    rw [k2, k3, ← hF x (by omega)]
    exact cp_s
theorem xe0_4 {post : SX → Prop} {f_dNodes f_dFlows f_nodes f_flows f_clock f_acts : Int32} {a_dKind a_dNumber a_dFrom a_dTo a_dWhen a_kind a_number a_from a_to a_when a_comes a_leaves a_reached a_onFlow a_inNode a_ring a_variable a_marked a_holding a_ables a_known a_stored : Nat → Int32} {F jr : Nat → Int32} (hF : ∀ x, x < 60 → F (0 + x) = a_onFlow x) (K : ∃ n, wX_exchange_49 post 0 f_dNodes f_dFlows f_nodes f_flows f_clock f_acts n (nI 60) 0 a_dKind a_dNumber a_dFrom a_dTo a_dWhen a_kind a_number a_from a_to a_when a_comes a_leaves a_reached a_onFlow a_inNode a_ring a_variable a_marked a_holding a_ables a_known a_stored (cp_F F jr 60)) :
    ∀ d x a, x + d = 60 → a = cp_F F jr (0 + x) → wX_exchange_4 post 0 f_dNodes f_dFlows f_nodes f_flows f_clock f_acts (d + 1) (nI (0 + x)) (nI x) a_dKind a_dNumber a_dFrom a_dTo a_dWhen a_kind a_number a_from a_to a_when a_comes a_leaves a_reached a_onFlow a_inNode a_ring a_variable a_marked a_holding a_ables a_known a_stored a := by
  intro d
  induction d with
  | zero =>
    intro x a hx ea
    have : x = 60 := by omega
    subst this
    subst ea
    rw [wX_exchange_4]
    exact br_t (nI_le (Nat.le_refl _) (by omega)) K
  | succ d ih =>
    intro x a hx ea
    subst ea
    have k2 : (nI (0 + x)).toNatClampNeg = 0 + x := nI_clamp (by omega)
    have k3 : (nI x).toNatClampNeg = x := nI_clamp (by omega)
    rw [wX_exchange_4]
    refine br_f (nI_ge (b := 60) (by omega) (by omega)) (br_t rfl (nm_r (e' := nI (0 + (x + 1))) (nI_1 _) (And.intro (vp_in_nI (by omega) (by omega)) (And.intro (vp_in_nI (by omega) (by omega)) (nm_r (e' := cp_F F jr (0 + (x + 1))) ?_ (nm_r (nI_1 x) (ih (x + 1) _ (by omega) rfl)))))))
    rw [k2, k3, ← hF x (by omega)]
    exact cp_s
theorem xe1_185 {post : SX → Prop} {f_dNodes f_dFlows f_nodes f_flows f_clock f_acts : Int32} {a_dKind a_dNumber a_dFrom a_dTo a_dWhen a_kind a_number a_from a_to a_when a_comes a_leaves a_reached a_onFlow a_inNode a_ring a_variable a_marked a_holding a_ables a_known a_stored a_journal : Nat → Int32} (hs : ∀ x, x < 3 → vp_nar .byte ((a_journal (465 + x)).toInt8.toInt32) = a_journal (465 + x)) (K : post (f_dNodes, f_dFlows, f_nodes, f_flows, a_journal 468, a_journal 469, a_dKind, a_dNumber, a_dFrom, a_dTo, a_dWhen, a_kind, a_number, a_from, a_to, a_when, a_comes, a_leaves, a_reached, a_onFlow, a_inNode, a_ring, a_variable, a_marked, a_holding, a_ables, a_known, cp_F (fun q => a_journal (465 + q)) a_stored 3, a_journal)) :
    ∀ d x a, x + d = 3 → a = cp_F (fun q => a_journal (465 + q)) a_stored x → wX_exchange_185 post 1 f_dNodes f_dFlows f_nodes f_flows f_clock f_acts (d + 1) (nI (465 + x)) (nI x) a_dKind a_dNumber a_dFrom a_dTo a_dWhen a_kind a_number a_from a_to a_when a_comes a_leaves a_reached a_onFlow a_inNode a_ring a_variable a_marked a_holding a_ables a_known a a_journal := by
  intro d
  induction d with
  | zero =>
    intro x a hx ea
    have : x = 3 := by omega
    subst this
    subst ea
    rw [wX_exchange_185]
    have k8 : (nI (465 + 3)).toNatClampNeg = 468 := nI_clamp (by omega)
    have e9 : (nI (465 + 3) + 1 : Int32) = nI 469 := nI_1 468
    have k9 : (nI 469).toNatClampNeg = 469 := nI_clamp (by omega)
    have v8 : vp_in (nI (465 + 3)) 480 := vp_in_nI (by omega) (by omega)
    have v9 : vp_in (nI (465 + 3) + 1) 480 := by rw [e9]; exact vp_in_nI (by omega) (by omega)
    refine br_t (nI_le (Nat.le_refl _) (by omega)) (br_f ix_10 (And.intro v8 (nm_r (e' := a_journal 468) (by rw [k8]) (And.intro v9 (nm_r (e' := a_journal 469) (by rw [e9, k9]) (And.intro v8 (nm_r (e' := a_journal) ?_ (And.intro v9 (nm_r (e' := a_journal) ?_ K)))))))))
    · rw [k8]; exact up_id
    · rw [e9, k9]; exact up_id
  | succ d ih =>
    intro x a hx ea
    subst ea
    have k2 : (nI (465 + x)).toNatClampNeg = 465 + x := nI_clamp (by omega)
    have k3 : (nI x).toNatClampNeg = x := nI_clamp (by omega)
    have v2 : vp_in (nI (465 + x)) 480 := vp_in_nI (by omega) (by omega)
    have v3 : vp_in (nI x) 3 := vp_in_nI (by omega) (by omega)
    rw [wX_exchange_185]
    refine br_f (nI_ge (b := 3) (by omega) (by omega)) (br_f ix_10 (And.intro v2 (And.intro v3 (nm_r (e' := cp_F (fun q => a_journal (465 + q)) a_stored (x + 1)) ?_ (nm_r (e' := nI (465 + (x + 1))) (nI_1 _) (And.intro v3 (And.intro v2 (nm_r (e' := a_journal) ?_ (nm_r (nI_1 x) (ih (x + 1) _ (by omega) rfl))))))))))
    · rw [k2, k3, hs x (by omega)]
      exact cp_s (F := (fun q => a_journal (465 + q)))
    · rw [k2, k3, cp_lt (by omega)]
      exact up_id
theorem xe1_140 {post : SX → Prop} {f_dNodes f_dFlows f_nodes f_flows f_clock f_acts : Int32} {a_dKind a_dNumber a_dFrom a_dTo a_dWhen a_kind a_number a_from a_to a_when a_comes a_leaves a_reached a_onFlow a_inNode a_ring a_variable a_marked a_holding a_ables a_known a_stored a_journal : Nat → Int32} (K : ∃ n, wX_exchange_185 post 1 f_dNodes f_dFlows f_nodes f_flows f_clock f_acts n (nI 465) 0 a_dKind a_dNumber a_dFrom a_dTo a_dWhen a_kind a_number a_from a_to a_when a_comes a_leaves a_reached a_onFlow a_inNode a_ring (cp_F (fun q => a_journal (456 + q)) a_variable 9) a_marked a_holding a_ables a_known a_stored a_journal) :
    ∀ d x a, x + d = 9 → a = cp_F (fun q => a_journal (456 + q)) a_variable x → wX_exchange_140 post 1 f_dNodes f_dFlows f_nodes f_flows f_clock f_acts (d + 1) (nI (456 + x)) (nI x) a_dKind a_dNumber a_dFrom a_dTo a_dWhen a_kind a_number a_from a_to a_when a_comes a_leaves a_reached a_onFlow a_inNode a_ring a a_marked a_holding a_ables a_known a_stored a_journal := by
  intro d
  induction d with
  | zero =>
    intro x a hx ea
    have : x = 9 := by omega
    subst this
    subst ea
    rw [wX_exchange_140]
    exact br_t (nI_le (Nat.le_refl _) (by omega)) K
  | succ d ih =>
    intro x a hx ea
    subst ea
    have k2 : (nI (456 + x)).toNatClampNeg = 456 + x := nI_clamp (by omega)
    have k3 : (nI x).toNatClampNeg = x := nI_clamp (by omega)
    have v2 : vp_in (nI (456 + x)) 480 := vp_in_nI (by omega) (by omega)
    have v3 : vp_in (nI x) 9 := vp_in_nI (by omega) (by omega)
    rw [wX_exchange_140]
    refine br_f (nI_ge (b := 9) (by omega) (by omega)) (br_f ix_10 (And.intro v2 (And.intro v3 (nm_r (e' := cp_F (fun q => a_journal (456 + q)) a_variable (x + 1)) ?_ (nm_r (e' := nI (456 + (x + 1))) (nI_1 _) (And.intro v3 (And.intro v2 (nm_r (e' := a_journal) ?_ (nm_r (nI_1 x) (ih (x + 1) _ (by omega) rfl))))))))))
    · rw [k2, k3]
      exact cp_s (F := (fun q => a_journal (456 + q)))
    · rw [k2, k3, cp_lt (by omega)]
      exact up_id
theorem xe1_94 {post : SX → Prop} {f_dNodes f_dFlows f_nodes f_flows f_clock f_acts : Int32} {a_dKind a_dNumber a_dFrom a_dTo a_dWhen a_kind a_number a_from a_to a_when a_comes a_leaves a_reached a_onFlow a_inNode a_ring a_variable a_marked a_holding a_ables a_known a_stored a_journal : Nat → Int32} (K : ∃ n, wX_exchange_140 post 1 f_dNodes f_dFlows f_nodes f_flows f_clock f_acts n (nI 456) 0 a_dKind a_dNumber a_dFrom a_dTo a_dWhen a_kind a_number a_from a_to a_when a_comes a_leaves a_reached a_onFlow a_inNode (cp_F (fun q => a_journal (96 + q)) a_ring 360) a_variable a_marked a_holding a_ables a_known a_stored a_journal) :
    ∀ d x a, x + d = 360 → a = cp_F (fun q => a_journal (96 + q)) a_ring x → wX_exchange_94 post 1 f_dNodes f_dFlows f_nodes f_flows f_clock f_acts (d + 1) (nI (96 + x)) (nI x) a_dKind a_dNumber a_dFrom a_dTo a_dWhen a_kind a_number a_from a_to a_when a_comes a_leaves a_reached a_onFlow a_inNode a a_variable a_marked a_holding a_ables a_known a_stored a_journal := by
  intro d
  induction d with
  | zero =>
    intro x a hx ea
    have : x = 360 := by omega
    subst this
    subst ea
    rw [wX_exchange_94]
    exact br_t (nI_le (Nat.le_refl _) (by omega)) K
  | succ d ih =>
    intro x a hx ea
    subst ea
    have k2 : (nI (96 + x)).toNatClampNeg = 96 + x := nI_clamp (by omega)
    have k3 : (nI x).toNatClampNeg = x := nI_clamp (by omega)
    have v2 : vp_in (nI (96 + x)) 480 := vp_in_nI (by omega) (by omega)
    have v3 : vp_in (nI x) 360 := vp_in_nI (by omega) (by omega)
    rw [wX_exchange_94]
    refine br_f (nI_ge (b := 360) (by omega) (by omega)) (br_f ix_10 (And.intro v2 (And.intro v3 (nm_r (e' := cp_F (fun q => a_journal (96 + q)) a_ring (x + 1)) ?_ (nm_r (e' := nI (96 + (x + 1))) (nI_1 _) (And.intro v3 (And.intro v2 (nm_r (e' := a_journal) ?_ (nm_r (nI_1 x) (ih (x + 1) _ (by omega) rfl))))))))))
    · rw [k2, k3]
      exact cp_s (F := (fun q => a_journal (96 + q)))
    · rw [k2, k3, cp_lt (by omega)]
      exact up_id
theorem xe1_49 {post : SX → Prop} {f_dNodes f_dFlows f_nodes f_flows f_clock f_acts : Int32} {a_dKind a_dNumber a_dFrom a_dTo a_dWhen a_kind a_number a_from a_to a_when a_comes a_leaves a_reached a_onFlow a_inNode a_ring a_variable a_marked a_holding a_ables a_known a_stored a_journal : Nat → Int32} (K : ∃ n, wX_exchange_94 post 1 f_dNodes f_dFlows f_nodes f_flows f_clock f_acts n (nI 96) 0 a_dKind a_dNumber a_dFrom a_dTo a_dWhen a_kind a_number a_from a_to a_when a_comes a_leaves a_reached a_onFlow (cp_F (fun q => a_journal (60 + q)) a_inNode 36) a_ring a_variable a_marked a_holding a_ables a_known a_stored a_journal) :
    ∀ d x a, x + d = 36 → a = cp_F (fun q => a_journal (60 + q)) a_inNode x → wX_exchange_49 post 1 f_dNodes f_dFlows f_nodes f_flows f_clock f_acts (d + 1) (nI (60 + x)) (nI x) a_dKind a_dNumber a_dFrom a_dTo a_dWhen a_kind a_number a_from a_to a_when a_comes a_leaves a_reached a_onFlow a a_ring a_variable a_marked a_holding a_ables a_known a_stored a_journal := by
  intro d
  induction d with
  | zero =>
    intro x a hx ea
    have : x = 36 := by omega
    subst this
    subst ea
    rw [wX_exchange_49]
    exact br_t (nI_le (Nat.le_refl _) (by omega)) K
  | succ d ih =>
    intro x a hx ea
    subst ea
    have k2 : (nI (60 + x)).toNatClampNeg = 60 + x := nI_clamp (by omega)
    have k3 : (nI x).toNatClampNeg = x := nI_clamp (by omega)
    have v2 : vp_in (nI (60 + x)) 480 := vp_in_nI (by omega) (by omega)
    have v3 : vp_in (nI x) 36 := vp_in_nI (by omega) (by omega)
    rw [wX_exchange_49]
    refine br_f (nI_ge (b := 36) (by omega) (by omega)) (br_f ix_10 (And.intro v2 (And.intro v3 (nm_r (e' := cp_F (fun q => a_journal (60 + q)) a_inNode (x + 1)) ?_ (nm_r (e' := nI (60 + (x + 1))) (nI_1 _) (And.intro v3 (And.intro v2 (nm_r (e' := a_journal) ?_ (nm_r (nI_1 x) (ih (x + 1) _ (by omega) rfl))))))))))
    · rw [k2, k3]
      exact cp_s (F := (fun q => a_journal (60 + q)))
    · rw [k2, k3, cp_lt (by omega)]
      exact up_id
theorem xe1_4 {post : SX → Prop} {f_dNodes f_dFlows f_nodes f_flows f_clock f_acts : Int32} {a_dKind a_dNumber a_dFrom a_dTo a_dWhen a_kind a_number a_from a_to a_when a_comes a_leaves a_reached a_onFlow a_inNode a_ring a_variable a_marked a_holding a_ables a_known a_stored a_journal : Nat → Int32} (K : ∃ n, wX_exchange_49 post 1 f_dNodes f_dFlows f_nodes f_flows f_clock f_acts n (nI 60) 0 a_dKind a_dNumber a_dFrom a_dTo a_dWhen a_kind a_number a_from a_to a_when a_comes a_leaves a_reached (cp_F a_journal a_onFlow 60) a_inNode a_ring a_variable a_marked a_holding a_ables a_known a_stored a_journal) :
    ∀ d x a, x + d = 60 → a = cp_F a_journal a_onFlow x → wX_exchange_4 post 1 f_dNodes f_dFlows f_nodes f_flows f_clock f_acts (d + 1) (nI (0 + x)) (nI x) a_dKind a_dNumber a_dFrom a_dTo a_dWhen a_kind a_number a_from a_to a_when a_comes a_leaves a_reached a a_inNode a_ring a_variable a_marked a_holding a_ables a_known a_stored a_journal := by
  intro d
  induction d with
  | zero =>
    intro x a hx ea
    have : x = 60 := by omega
    subst this
    subst ea
    rw [wX_exchange_4]
    exact br_t (nI_le (Nat.le_refl _) (by omega)) K
  | succ d ih =>
    intro x a hx ea
    subst ea
    have k2 : (nI (0 + x)).toNatClampNeg = 0 + x := nI_clamp (by omega)
    have k3 : (nI x).toNatClampNeg = x := nI_clamp (by omega)
    have v2 : vp_in (nI (0 + x)) 480 := vp_in_nI (by omega) (by omega)
    have v3 : vp_in (nI x) 60 := vp_in_nI (by omega) (by omega)
    rw [wX_exchange_4]
    refine br_f (nI_ge (b := 60) (by omega) (by omega)) (br_f ix_10 (And.intro v2 (And.intro v3 (nm_r (e' := cp_F a_journal a_onFlow (x + 1)) ?_ (nm_r (e' := nI (0 + (x + 1))) (nI_1 _) (And.intro v3 (And.intro v2 (nm_r (e' := a_journal) ?_ (nm_r (nI_1 x) (ih (x + 1) _ (by omega) rfl))))))))))
    · rw [k2, k3]
      rw [show (0 + x) = x from Nat.zero_add x]; exact cp_s (F := a_journal)
    · rw [k2, k3, cp_lt (by omega)]
      rw [show (0 + x) = x from Nat.zero_add x]; exact up_id
end
section
/-! X: flush and crash -/
def jn_F (ck ac : Int32) (on inn rg va st : Nat → Int32) : Nat → Int32 := fun q => if q < 60 then on q else if q < 96 then inn (q - 60) else if q < 456 then rg (q - 96) else if q < 465 then va (q - 456) else if q < 468 then st (q - 465) else if q < 469 then ck else ac
theorem jn_1 {ck ac : Int32} {on inn rg va st : Nat → Int32} : ∀ x, x < 60 → jn_F ck ac on inn rg va st (0 + x) = on x := fun x h => by
  unfold jn_F
  rw [Nat.zero_add, if_pos h]
theorem jn_2 {ck ac : Int32} {on inn rg va st : Nat → Int32} : ∀ x, x < 36 → jn_F ck ac on inn rg va st (60 + x) = inn x := fun x h => by
  unfold jn_F
  rw [if_neg (by omega), if_pos (by omega), Nat.add_sub_cancel_left]
theorem jn_3 {ck ac : Int32} {on inn rg va st : Nat → Int32} : ∀ x, x < 360 → jn_F ck ac on inn rg va st (96 + x) = rg x := fun x h => by
  unfold jn_F
  rw [if_neg (by omega), if_neg (by omega), if_pos (by omega), Nat.add_sub_cancel_left]
theorem jn_4 {ck ac : Int32} {on inn rg va st : Nat → Int32} : ∀ x, x < 9 → jn_F ck ac on inn rg va st (456 + x) = va x := fun x h => by
  unfold jn_F
  rw [if_neg (by omega), if_neg (by omega), if_neg (by omega), if_pos (by omega), Nat.add_sub_cancel_left]
theorem jn_5 {ck ac : Int32} {on inn rg va st : Nat → Int32} : ∀ x, x < 3 → jn_F ck ac on inn rg va st (465 + x) = st x := fun x h => by
  unfold jn_F
  rw [if_neg (by omega), if_neg (by omega), if_neg (by omega), if_neg (by omega), if_pos (by omega), Nat.add_sub_cancel_left]
/-- a picture of the same contents -/
theorem xx_Sc {c : DS} {ck ac ck' ac' : Int32} {on inn rg va st on' inn' rg' va' st' : Nat → Int32} (h : xx_S c ck ac on inn rg va st) (h1 : ∀ x, x < 60 → on' x = on x) (h2 : ∀ x, x < 36 → inn' x = inn x) (h3 : ∀ x, x < 360 → rg' x = rg x) (h4 : ∀ x, x < 9 → va' x = va x) (h5 : ∀ x, x < 3 → st' x = st x) (h6 : ck' = ck) (h7 : ac' = ac) : xx_S c ck' ac' on' inn' rg' va' st' :=
  ⟨fun k hk => (h1 k hk).trans (h.1 k hk), fun k hk => (h2 k hk).trans (h.2.1 k hk), fun k t hk ht => (h3 _ (by omega)).trans (h.2.2.1 k t hk ht), fun k hk => (h4 k hk).trans (h.2.2.2.1 k hk), fun k hk => (h5 k hk).trans (h.2.2.2.2.1 k hk), h6.trans h.2.2.2.2.2.1, h7.trans h.2.2.2.2.2.2⟩
theorem xl_flush {post : SX → Prop} {N D : NT} {c j : DS} {f_dNodes f_dFlows f_nodes f_flows f_clock f_acts : Int32} {a_dKind a_dNumber a_dFrom a_dTo a_dWhen a_kind a_number a_from a_to a_when a_comes a_leaves a_reached a_onFlow a_inNode a_ring a_variable a_marked a_holding a_ables a_known a_stored a_journal : Nat → Int32} (RD : xx_D D f_dNodes f_dFlows a_dKind a_dNumber a_dFrom a_dTo a_dWhen) (RN : xx_N N f_nodes f_flows a_kind a_number a_from a_to a_when a_comes a_leaves a_reached) (RS : xx_S c f_clock f_acts a_onFlow a_inNode a_ring a_variable a_stored) (RM : xx_M N c a_marked a_holding a_ables a_known) (h : ∀ u', xx_R N D c c u' → post u') : wpX_flush post (f_dNodes, f_dFlows, f_nodes, f_flows, f_clock, f_acts, a_dKind, a_dNumber, a_dFrom, a_dTo, a_dWhen, a_kind, a_number, a_from, a_to, a_when, a_comes, a_leaves, a_reached, a_onFlow, a_inNode, a_ring, a_variable, a_marked, a_holding, a_ables, a_known, a_stored, a_journal) := by
  have P : post (f_dNodes, f_dFlows, f_nodes, f_flows, f_clock, f_acts, a_dKind, a_dNumber, a_dFrom, a_dTo, a_dWhen, a_kind, a_number, a_from, a_to, a_when, a_comes, a_leaves, a_reached, a_onFlow, a_inNode, a_ring, a_variable, a_marked, a_holding, a_ables, a_known, a_stored, cp_F (jn_F f_clock f_acts a_onFlow a_inNode a_ring a_variable a_stored) a_journal 470) := by
    refine h _ ⟨RD, RN, RS, RM, xx_Sc RS (fun x hx => ?_) (fun x hx => ?_) (fun x hx => ?_) (fun x hx => ?_) (fun x hx => ?_) ?_ ?_⟩
    · rw [cp_lt (by omega)]; have := jn_1 (ck := f_clock) (ac := f_acts) (on := a_onFlow) (inn := a_inNode) (rg := a_ring) (va := a_variable) (st := a_stored) x hx; rw [Nat.zero_add] at this; exact this
    · show cp_F _ _ 470 (60 + x) = _
      rw [cp_lt (by omega)]; exact jn_2 x hx
    · show cp_F _ _ 470 (96 + x) = _
      rw [cp_lt (by omega)]; exact jn_3 x hx
    · show cp_F _ _ 470 (456 + x) = _
      rw [cp_lt (by omega)]; exact jn_4 x hx
    · show cp_F _ _ 470 (465 + x) = _
      rw [cp_lt (by omega)]; exact jn_5 x hx
    · rw [cp_lt (by omega)]; rfl
    · rw [cp_lt (by omega)]; rfl
  exact ⟨61, xe0_4 jn_1 ⟨37, xe0_49 jn_2 ⟨361, xe0_94 jn_3 ⟨10, xe0_140 jn_4 ⟨4, xe0_185 rfl rfl jn_5 P 3 0 _ (by omega) rfl⟩ 9 0 _ (by omega) rfl⟩ 360 0 _ (by omega) rfl⟩ 36 0 _ (by omega) rfl⟩ 60 0 a_journal (by omega) cp_0.symm⟩
/-- what is taken back out of the journal -/
theorem xl_back {post : SX → Prop} {N D : NT} {B : Nat} {c j : DS} {f_dNodes f_dFlows f_nodes f_flows f_clock f_acts : Int32} {a_dKind a_dNumber a_dFrom a_dTo a_dWhen a_kind a_number a_from a_to a_when a_comes a_leaves a_reached a_onFlow a_inNode a_ring a_variable a_marked a_holding a_ables a_known a_stored a_journal : Nat → Int32} (R : xx_R N D c j (f_dNodes, f_dFlows, f_nodes, f_flows, f_clock, f_acts, a_dKind, a_dNumber, a_dFrom, a_dTo, a_dWhen, a_kind, a_number, a_from, a_to, a_when, a_comes, a_leaves, a_reached, a_onFlow, a_inNode, a_ring, a_variable, a_marked, a_holding, a_ables, a_known, a_stored, a_journal)) (I : ic_C N B j)
    (h : ∀ f_dNodes f_dFlows f_nodes f_flows f_clock f_acts a_dKind a_dNumber a_dFrom a_dTo a_dWhen a_kind a_number a_from a_to a_when a_comes a_leaves a_reached a_onFlow a_inNode a_ring a_variable a_marked a_holding a_ables a_known a_stored a_journal, xx_D D f_dNodes f_dFlows a_dKind a_dNumber a_dFrom a_dTo a_dWhen → xx_N N f_nodes f_flows a_kind a_number a_from a_to a_when a_comes a_leaves a_reached → xx_S j f_clock f_acts a_onFlow a_inNode a_ring a_variable a_stored → xx_J j a_journal → post (f_dNodes, f_dFlows, f_nodes, f_flows, f_clock, f_acts, a_dKind, a_dNumber, a_dFrom, a_dTo, a_dWhen, a_kind, a_number, a_from, a_to, a_when, a_comes, a_leaves, a_reached, a_onFlow, a_inNode, a_ring, a_variable, a_marked, a_holding, a_ables, a_known, a_stored, a_journal)) : wpX_exchange post (f_dNodes, f_dFlows, f_nodes, f_flows, f_clock, f_acts, a_dKind, a_dNumber, a_dFrom, a_dTo, a_dWhen, a_kind, a_number, a_from, a_to, a_when, a_comes, a_leaves, a_reached, a_onFlow, a_inNode, a_ring, a_variable, a_marked, a_holding, a_ables, a_known, a_stored, a_journal) 1 := by
  obtain ⟨RD, RN, RS, RM, RJ⟩ := R
  have hs : ∀ x, x < 3 → vp_nar .byte ((a_journal (465 + x)).toInt8.toInt32) = a_journal (465 + x) := fun x hx => by
    have e : a_journal (465 + x) = nI (ds_st j x) := RJ.2.2.2.2.1 x hx
    have := I.2.2.2.2.2.1 x hx
    rw [e, ix_b10 _ (by omega)]
  have P : post (f_dNodes, f_dFlows, f_nodes, f_flows, a_journal 468, a_journal 469, a_dKind, a_dNumber, a_dFrom, a_dTo, a_dWhen, a_kind, a_number, a_from, a_to, a_when, a_comes, a_leaves, a_reached, cp_F a_journal a_onFlow 60, cp_F (fun q => a_journal (60 + q)) a_inNode 36, cp_F (fun q => a_journal (96 + q)) a_ring 360, cp_F (fun q => a_journal (456 + q)) a_variable 9, a_marked, a_holding, a_ables, a_known, cp_F (fun q => a_journal (465 + q)) a_stored 3, a_journal) :=
    h _ _ _ _ _ _ _ _ _ _ _ _ _ _ _ _ _ _ _ _ _ _ _ _ _ _ _ _ _ RD RN (xx_Sc RJ (fun x hx => cp_lt hx) (fun x hx => cp_lt hx) (fun x hx => cp_lt hx) (fun x hx => cp_lt hx) (fun x hx => cp_lt hx) rfl rfl) RJ
  exact ⟨61, xe1_4 ⟨37, xe1_49 ⟨361, xe1_94 ⟨10, xe1_140 ⟨4, xe1_185 hs P 3 0 _ (by omega) cp_0.symm⟩ 9 0 _ (by omega) cp_0.symm⟩ 360 0 _ (by omega) cp_0.symm⟩ 36 0 _ (by omega) cp_0.symm⟩ 60 0 _ (by omega) cp_0.symm⟩
noncomputable def al_N (c : DS) : Nat → Nat
  | 0 => 0
  | i + 1 => al_N c i + @ite Nat (ds_Al c i) (Classical.propDecidable _) 1 0
theorem al_1 {c : DS} {i : Nat} (h : ds_Al c i) : al_N c (i + 1) = al_N c i + 1 := by
  show _ + @ite Nat (ds_Al c i) (Classical.propDecidable _) 1 0 = _
  rw [if_pos h]
theorem al_0 {c : DS} {i : Nat} (h : ¬ ds_Al c i) : al_N c (i + 1) = al_N c i := by
  show _ + @ite Nat (ds_Al c i) (Classical.propDecidable _) 1 0 = _
  rw [if_neg h]
  rfl
def cr_M (N : NT) (c : DS) (i : Nat) (mk hd ab kn : Nat → Int32) : Prop := ∀ i', i' < i → xx_K N c i' (mk i') (hd i') (ab i') (kn i')
theorem xl_cr77 {post : Int32 → SX → Prop} {J : Int32 → Int32 → (Nat → Int32) → (Nat → Int32) → (Nat → Int32) → (Nat → Int32) → (Nat → Int32) → (Nat → Int32) → (Nat → Int32) → (Nat → Int32) → (Nat → Int32) → (Nat → Int32) → (Nat → Int32) → (Nat → Int32) → (Nat → Int32) → (Nat → Int32) → (Nat → Int32) → (Nat → Int32) → (Nat → Int32) → (Nat → Int32) → (Nat → Int32) → (Nat → Int32) → (Nat → Int32) → (Nat → Int32) → (Nat → Int32) → Prop}
    {N : NT} {B : Nat} {c : DS} {i : Nat} {f_dNodes f_dFlows f_nodes f_flows f_clock f_acts : Int32} {a_dKind a_dNumber a_dFrom a_dTo a_dWhen a_kind a_number a_from a_to a_when a_comes a_leaves a_reached a_onFlow a_inNode a_ring a_variable a_marked a_ables a_known a_stored a_journal : Nat → Int32} (W : nt_W N) (I : ic_C N B c) (hB : B < 2 ^ 31) (hi : i < 3) (RS : xx_S c f_clock f_acts a_onFlow a_inNode a_ring a_variable a_stored) (hm : bm_S (a_marked i) (fun f => f < 20 ∧ ds_P c i f)) (hk : a_known i = 0)
    (K : ∀ hd, cr_M N c (i + 1) a_marked hd a_ables a_known → J (nI (al_N c (i + 1))) (nI (i + 1)) a_dKind a_dNumber a_dFrom a_dTo a_dWhen a_kind a_number a_from a_to a_when a_comes a_leaves a_reached a_onFlow a_inNode a_ring a_variable a_marked hd a_ables a_known a_stored a_journal) :
    ∀ d x hd, x + d = 12 → cr_M N c i a_marked hd a_ables a_known → bm_S (hd i) (fun n => n < x ∧ ds_Q c i n) → wX_crash_77 post J (nI (al_N c i)) (nI i) f_dNodes f_dFlows f_nodes f_flows f_clock f_acts (d + 1) (nI x) a_dKind a_dNumber a_dFrom a_dTo a_dWhen a_kind a_number a_from a_to a_when a_comes a_leaves a_reached a_onFlow a_inNode a_ring a_variable a_marked hd a_ables a_known a_stored a_journal := by
  have vi : vp_in (nI i) 3 := vp_in_nI hi (by omega)
  have ki : (nI i).toNatClampNeg = i := nI_clamp (by omega)
  intro d
  induction d with
  | zero =>
    intro x hd hx hM hb
    have : x = 12 := by omega
    subst this
    have KK : cr_M N c (i + 1) a_marked hd a_ables a_known := fun i' hi' => by
      by_cases e : i' = i
      · subst e; exact ⟨hm, hb, Or.inl hk⟩
      · exact hM i' (by omega)
    have Z := bm_or hm hb
    rw [wX_crash_77]
    refine br_t (nI_le (Nat.le_refl _) (by omega)) (And.intro vi (And.intro vi ?_))
    rw [ki]
    refine br_c (fun z => br_t rfl (nm_r (nI_1 i) ?_)) (fun z => br_f ix_10 (nm_r (nI_1 _) (nm_r (nI_1 i) ?_)))
    · have e : ¬ ds_Al c i := by
        rintro (⟨f, a, b⟩ | ⟨n, a, b⟩)
        · exact (bm_eq0 Z).mp z f (by omega) (Or.inl ⟨a, b⟩)
        · exact (bm_eq0 Z).mp z n (by omega) (Or.inr ⟨a, b⟩)
      have := K hd KK
      rw [al_0 e] at this
      exact this
    · have e : ds_Al c i := by
        obtain ⟨f, _, q⟩ := (bm_ne0 Z).mp z
        rcases q with q | q
        · exact Or.inl ⟨f, q⟩
        · exact Or.inr ⟨f, q⟩
      have := K hd KK
      rw [al_1 e] at this
      exact this
  | succ d ih =>
    intro x hd hx hM hb
    have e : (12 * nI i + nI x : Int32) = nI (12 * i + x) := ix_m 12 i x
    have b2 := ic_in W I hi (show x < 12 by omega)
    rw [wX_crash_77]
    refine br_f (nI_ge (b := 12) (by omega) (by omega)) (And.intro (by rw [e]; exact vp_in_nI (by omega) (by omega)) (pk_le (ds_in c (12 * i + x)) 0 (fun q => nm_r (nI_1 x) (ih (x + 1) hd (by omega) hM (bm_imp hb (fun n _ => ?_)))) (fun q => And.intro vi (And.intro vi (nm_r (e' := upd hd i (hd i ||| ((1 : Int32) <<< (nI x &&& 31)))) (by rw [ki]) (nm_r (nI_1 x) (ih (x + 1) _ (by omega) (fun i' h => ?_) ?_))))) (by rw [e, nI_clamp (by omega)]; exact RS.2.1 _ (by omega)) rfl))
    · constructor
      · exact fun z => ⟨by omega, z.2⟩
      · rintro ⟨z1, z2⟩
        refine ⟨?_, z2⟩
        by_cases w : n = x
        · subst w; unfold ds_Q at z2; omega
        · omega
    · rw [pk_un (by omega)]; exact hM i' h
    · rw [pk_us]
      refine bm_imp (bm_or1 hb (by omega)) (fun n _ => ?_)
      constructor
      · rintro (z | z)
        · exact ⟨by omega, z.2⟩
        · subst z; exact ⟨by omega, q⟩
      · rintro ⟨z1, z2⟩
        by_cases w : n = x
        · exact Or.inr w
        · exact Or.inl ⟨by omega, z2⟩
theorem xl_cr37 {post : Int32 → SX → Prop} {J : Int32 → Int32 → (Nat → Int32) → (Nat → Int32) → (Nat → Int32) → (Nat → Int32) → (Nat → Int32) → (Nat → Int32) → (Nat → Int32) → (Nat → Int32) → (Nat → Int32) → (Nat → Int32) → (Nat → Int32) → (Nat → Int32) → (Nat → Int32) → (Nat → Int32) → (Nat → Int32) → (Nat → Int32) → (Nat → Int32) → (Nat → Int32) → (Nat → Int32) → (Nat → Int32) → (Nat → Int32) → (Nat → Int32) → (Nat → Int32) → Prop}
    {N : NT} {B : Nat} {c : DS} {i : Nat} {f_dNodes f_dFlows f_nodes f_flows f_clock f_acts : Int32} {a_dKind a_dNumber a_dFrom a_dTo a_dWhen a_kind a_number a_from a_to a_when a_comes a_leaves a_reached a_onFlow a_inNode a_ring a_variable a_holding a_ables a_known a_stored a_journal : Nat → Int32} (W : nt_W N) (I : ic_C N B c) (hB : B < 2 ^ 31) (hi : i < 3) (RS : xx_S c f_clock f_acts a_onFlow a_inNode a_ring a_variable a_stored) (h0 : a_holding i = 0) (hk : a_known i = 0)
    (K : ∀ mk hd, cr_M N c (i + 1) mk hd a_ables a_known → J (nI (al_N c (i + 1))) (nI (i + 1)) a_dKind a_dNumber a_dFrom a_dTo a_dWhen a_kind a_number a_from a_to a_when a_comes a_leaves a_reached a_onFlow a_inNode a_ring a_variable mk hd a_ables a_known a_stored a_journal) :
    ∀ d x mk, x + d = 20 → cr_M N c i mk a_holding a_ables a_known → bm_S (mk i) (fun n => n < x ∧ ds_P c i n) → wX_crash_37 post J (nI (al_N c i)) (nI i) f_dNodes f_dFlows f_nodes f_flows f_clock f_acts (d + 1) (nI x) a_dKind a_dNumber a_dFrom a_dTo a_dWhen a_kind a_number a_from a_to a_when a_comes a_leaves a_reached a_onFlow a_inNode a_ring a_variable mk a_holding a_ables a_known a_stored a_journal := by
  have vi : vp_in (nI i) 3 := vp_in_nI hi (by omega)
  have ki : (nI i).toNatClampNeg = i := nI_clamp (by omega)
  intro d
  induction d with
  | zero =>
    intro x mk hx hM hb
    have : x = 20 := by omega
    subst this
    rw [wX_crash_37]
    exact br_t (nI_le (Nat.le_refl _) (by omega)) ⟨13, xl_cr77 W I hB hi RS hb hk (fun hd => K mk hd) 12 0 a_holding (by omega) hM (by rw [h0]; exact bm_0 (fun f _ z => by omega))⟩
  | succ d ih =>
    intro x mk hx hM hb
    have e : (20 * nI i + nI x : Int32) = nI (20 * i + x) := ix_m 20 i x
    have b2 := ic_on I hi (show x < 20 by omega)
    rw [wX_crash_37]
    refine br_f (nI_ge (b := 20) (by omega) (by omega)) (And.intro (by rw [e]; exact vp_in_nI (by omega) (by omega)) (pk_le (ds_on c (20 * i + x)) 0 (fun q => nm_r (nI_1 x) (ih (x + 1) mk (by omega) hM (bm_imp hb (fun n _ => ?_)))) (fun q => And.intro vi (And.intro vi (nm_r (e' := upd mk i (mk i ||| ((1 : Int32) <<< (nI x &&& 31)))) (by rw [ki]) (nm_r (nI_1 x) (ih (x + 1) _ (by omega) (fun i' h => ?_) ?_))))) (by rw [e, nI_clamp (by omega)]; exact RS.1 _ (by omega)) rfl))
    · constructor
      · exact fun z => ⟨by omega, z.2⟩
      · rintro ⟨z1, z2⟩
        refine ⟨?_, z2⟩
        by_cases w : n = x
        · subst w; unfold ds_P at z2; omega
        · omega
    · rw [pk_un (by omega)]; exact hM i' h
    · rw [pk_us]
      refine bm_imp (bm_or1 hb (by omega)) (fun n _ => ?_)
      constructor
      · rintro (z | z)
        · exact ⟨by omega, z.2⟩
        · subst z; exact ⟨by omega, q⟩
      · rintro ⟨z1, z2⟩
        by_cases w : n = x
        · exact Or.inr w
        · exact Or.inl ⟨by omega, z2⟩
theorem xl_cr9 {post : Int32 → SX → Prop} {N : NT} {B : Nat} {c : DS} {f_dNodes f_dFlows f_nodes f_flows f_clock f_acts : Int32} {a_dKind a_dNumber a_dFrom a_dTo a_dWhen a_kind a_number a_from a_to a_when a_comes a_leaves a_reached a_onFlow a_inNode a_ring a_variable a_ables a_stored a_journal : Nat → Int32} (W : nt_W N) (I : ic_C N B c) (hB : B < 2 ^ 31) (RS : xx_S c f_clock f_acts a_onFlow a_inNode a_ring a_variable a_stored)
    (K : ∀ mk hd kn, xx_M N c mk hd a_ables kn → post (nI (al_N c 3)) (f_dNodes, f_dFlows, f_nodes, f_flows, f_clock, f_acts, a_dKind, a_dNumber, a_dFrom, a_dTo, a_dWhen, a_kind, a_number, a_from, a_to, a_when, a_comes, a_leaves, a_reached, a_onFlow, a_inNode, a_ring, a_variable, mk, hd, a_ables, kn, a_stored, a_journal)) :
    ∀ d i mk hd kn, i + d = 3 → cr_M N c i mk hd a_ables kn → wX_crash_9 post f_dNodes f_dFlows f_nodes f_flows f_clock f_acts (d + 1) (nI (al_N c i)) (nI i) a_dKind a_dNumber a_dFrom a_dTo a_dWhen a_kind a_number a_from a_to a_when a_comes a_leaves a_reached a_onFlow a_inNode a_ring a_variable mk hd a_ables kn a_stored a_journal := by
  intro d
  induction d with
  | zero =>
    intro i mk hd kn hx hM
    have : i = 3 := by omega
    subst this
    rw [wX_crash_9]
    exact br_t (nI_le (Nat.le_refl _) (by omega)) (K mk hd kn hM)
  | succ d ih =>
    intro i mk hd kn hx hM
    have vi : vp_in (nI i) 3 := vp_in_nI (by omega) (by omega)
    have ki : (nI i).toNatClampNeg = i := nI_clamp (by omega)
    rw [wX_crash_9]
    refine br_f (nI_ge (b := 3) (by omega) (by omega)) (And.intro vi (nm_r (e' := upd mk i 0) (by rw [ki]) (And.intro vi (nm_r (e' := upd hd i 0) (by rw [ki]) (And.intro vi (nm_r (e' := upd kn i 0) (by rw [ki, ix_nb0]) ⟨21, xl_cr37 W I hB (by omega) RS pk_us pk_us (fun mk' hd' hM' => ih (i + 1) mk' hd' _ (by omega) hM') 20 0 _ (by omega) (fun i' h => ?_) ?_⟩))))))
    · rw [pk_un (by omega), pk_un (by omega), pk_un (by omega)]; exact hM i' h
    · rw [pk_us]; exact bm_0 (fun f _ z => by omega)
theorem xl_crash {post : Int32 → SX → Prop} {N D : NT} {B : Nat} {c j : DS} {f_dNodes f_dFlows f_nodes f_flows f_clock f_acts : Int32} {a_dKind a_dNumber a_dFrom a_dTo a_dWhen a_kind a_number a_from a_to a_when a_comes a_leaves a_reached a_onFlow a_inNode a_ring a_variable a_marked a_holding a_ables a_known a_stored a_journal : Nat → Int32} (W : nt_W N) (R : xx_R N D c j (f_dNodes, f_dFlows, f_nodes, f_flows, f_clock, f_acts, a_dKind, a_dNumber, a_dFrom, a_dTo, a_dWhen, a_kind, a_number, a_from, a_to, a_when, a_comes, a_leaves, a_reached, a_onFlow, a_inNode, a_ring, a_variable, a_marked, a_holding, a_ables, a_known, a_stored, a_journal)) (I : ic_C N B j) (hB : B < 2 ^ 31) (h : ∀ u', xx_R N D j j u' → post (nI (al_N j 3)) u') : wpX_crash post (f_dNodes, f_dFlows, f_nodes, f_flows, f_clock, f_acts, a_dKind, a_dNumber, a_dFrom, a_dTo, a_dWhen, a_kind, a_number, a_from, a_to, a_when, a_comes, a_leaves, a_reached, a_onFlow, a_inNode, a_ring, a_variable, a_marked, a_holding, a_ables, a_known, a_stored, a_journal) := by
  refine xl_back R I (fun f_dNodes f_dFlows f_nodes f_flows f_clock f_acts a_dKind a_dNumber a_dFrom a_dTo a_dWhen a_kind a_number a_from a_to a_when a_comes a_leaves a_reached a_onFlow a_inNode a_ring a_variable a_marked a_holding a_ables a_known a_stored a_journal RD RN RS RJ => ⟨4, ?_⟩)
  exact xl_cr9 W I hB RS (fun mk hd kn hM => h _ ⟨RD, RN, RS, hM, RJ⟩) 3 0 a_marked a_holding a_known (by omega) (fun i' h => by omega)
end
section
/-! Y: write, flush, crash (printed by gen18.py) -/
def co_F (r : Nat → Int32) (lo sh x : Nat) : Nat → Int32 := fun q => if lo ≤ q ∧ q < lo + x then r (sh + (q - lo)) else r q
theorem co_0 {r : Nat → Int32} {lo sh : Nat} : co_F r lo sh 0 = r := by
  funext q
  exact if_neg (by omega)
theorem co_s {r : Nat → Int32} {lo sh x : Nat} (h : sh + x < lo ∨ lo + x ≤ sh + x) : upd (co_F r lo sh x) (lo + x) (co_F r lo sh x (sh + x)) = co_F r lo sh (x + 1) := by
  funext q
  have e0 : co_F r lo sh x (sh + x) = r (sh + x) := if_neg (by omega)
  rw [e0]
  unfold co_F
  by_cases e : q = lo + x
  · subst e
    rw [pk_us, if_pos (by omega), Nat.add_sub_cancel_left]
  · rw [pk_un e]
    by_cases z : lo ≤ q ∧ q < lo + x
    · rw [if_pos z, if_pos (by omega)]
    · rw [if_neg z, if_neg (by omega)]
theorem yw_149 {post : SY → Prop} {p q : Nat} {b_kind b_number b_from b_to b_cond b_nodes b_flows b_variables b_on b_in b_times b_stored b_clock b_acts b_reached : Nat → Int32} (hp : p < 2) (hq : q < 2) (hn : p ≠ q) (K : post (b_kind, b_number, b_from, b_to, b_cond, b_nodes, b_flows, b_variables, b_on, b_in, b_times, co_F b_stored (3 * q) (3 * p) 3, upd b_clock q (b_clock p), upd b_acts q (b_acts p), b_reached)) :
    ∀ d x a, x + d = 3 → a = co_F b_stored (3 * q) (3 * p) x → wY_write_149 post (nI p) (nI q) (d + 1) (nI x) b_kind b_number b_from b_to b_cond b_nodes b_flows b_variables b_on b_in b_times a b_clock b_acts b_reached := by
  intro d
  induction d with
  | zero =>
    intro x a hx ea
    have : x = 3 := by omega
    subst this
    subst ea
    rw [wY_write_149]
    have vp : vp_in (nI p) 2 := vp_in_nI (by omega) (by omega)
    have vq : vp_in (nI q) 2 := vp_in_nI (by omega) (by omega)
    have kp : (nI p).toNatClampNeg = p := nI_clamp (by omega)
    have kq : (nI q).toNatClampNeg = q := nI_clamp (by omega)
    exact br_t (nI_le (Nat.le_refl _) (by omega)) (And.intro vp (And.intro vq (nm_r (by rw [kp, kq]) (And.intro vp (And.intro vq (nm_r (by rw [kp, kq]) K))))))
  | succ d ih =>
    intro x a hx ea
    subst ea
    have e1 : (3 * nI p + nI x : Int32) = nI (3 * p + x) := ix_m 3 p x
    have e2 : (3 * nI q + nI x : Int32) = nI (3 * q + x) := ix_m 3 q x
    rw [wY_write_149]
    refine br_f (nI_ge (b := 3) (by omega) (by omega)) (And.intro (by rw [e1]; exact vp_in_nI (by omega) (by omega)) (And.intro (by rw [e2]; exact vp_in_nI (by omega) (by omega)) (nm_r (e' := co_F b_stored (3 * q) (3 * p) (x + 1)) ?_ (nm_r (nI_1 x) (ih (x + 1) _ (by omega) rfl)))))
    rw [e1, e2, nI_clamp (by omega), nI_clamp (by omega)]
    exact co_s (by omega)
theorem yw_110 {post : SY → Prop} {p q : Nat} {b_kind b_number b_from b_to b_cond b_nodes b_flows b_variables b_on b_in b_times b_stored b_clock b_acts b_reached : Nat → Int32} (hp : p < 2) (hq : q < 2) (hn : p ≠ q) (K : ∃ n, wY_write_149 post (nI p) (nI q) n 0 b_kind b_number b_from b_to b_cond b_nodes b_flows b_variables b_on b_in (co_F b_times (360 * q) (360 * p) 360) b_stored b_clock b_acts b_reached) :
    ∀ d x a, x + d = 360 → a = co_F b_times (360 * q) (360 * p) x → wY_write_110 post (nI p) (nI q) (d + 1) (nI x) b_kind b_number b_from b_to b_cond b_nodes b_flows b_variables b_on b_in a b_stored b_clock b_acts b_reached := by
  intro d
  induction d with
  | zero =>
    intro x a hx ea
    have : x = 360 := by omega
    subst this
    subst ea
    rw [wY_write_110]
    exact br_t (nI_le (Nat.le_refl _) (by omega)) K
  | succ d ih =>
    intro x a hx ea
    subst ea
    have e1 : (360 * nI p + nI x : Int32) = nI (360 * p + x) := ix_m 360 p x
    have e2 : (360 * nI q + nI x : Int32) = nI (360 * q + x) := ix_m 360 q x
    rw [wY_write_110]
    refine br_f (nI_ge (b := 360) (by omega) (by omega)) (And.intro (by rw [e1]; exact vp_in_nI (by omega) (by omega)) (And.intro (by rw [e2]; exact vp_in_nI (by omega) (by omega)) (nm_r (e' := co_F b_times (360 * q) (360 * p) (x + 1)) ?_ (nm_r (nI_1 x) (ih (x + 1) _ (by omega) rfl)))))
    rw [e1, e2, nI_clamp (by omega), nI_clamp (by omega)]
    exact co_s (by omega)
theorem yw_74 {post : SY → Prop} {p q : Nat} {b_kind b_number b_from b_to b_cond b_nodes b_flows b_variables b_on b_in b_times b_stored b_clock b_acts b_reached : Nat → Int32} (hp : p < 2) (hq : q < 2) (hn : p ≠ q) (K : ∃ n, wY_write_110 post (nI p) (nI q) n 0 b_kind b_number b_from b_to b_cond b_nodes b_flows b_variables b_on (co_F b_in (36 * q) (36 * p) 36) b_times b_stored b_clock b_acts b_reached) :
    ∀ d x a, x + d = 36 → a = co_F b_in (36 * q) (36 * p) x → wY_write_74 post (nI p) (nI q) (d + 1) (nI x) b_kind b_number b_from b_to b_cond b_nodes b_flows b_variables b_on a b_times b_stored b_clock b_acts b_reached := by
  intro d
  induction d with
  | zero =>
    intro x a hx ea
    have : x = 36 := by omega
    subst this
    subst ea
    rw [wY_write_74]
    exact br_t (nI_le (Nat.le_refl _) (by omega)) K
  | succ d ih =>
    intro x a hx ea
    subst ea
    have e1 : (36 * nI p + nI x : Int32) = nI (36 * p + x) := ix_m 36 p x
    have e2 : (36 * nI q + nI x : Int32) = nI (36 * q + x) := ix_m 36 q x
    rw [wY_write_74]
    refine br_f (nI_ge (b := 36) (by omega) (by omega)) (And.intro (by rw [e1]; exact vp_in_nI (by omega) (by omega)) (And.intro (by rw [e2]; exact vp_in_nI (by omega) (by omega)) (nm_r (e' := co_F b_in (36 * q) (36 * p) (x + 1)) ?_ (nm_r (nI_1 x) (ih (x + 1) _ (by omega) rfl)))))
    rw [e1, e2, nI_clamp (by omega), nI_clamp (by omega)]
    exact co_s (by omega)
theorem yw_38 {post : SY → Prop} {p q : Nat} {b_kind b_number b_from b_to b_cond b_nodes b_flows b_variables b_on b_in b_times b_stored b_clock b_acts b_reached : Nat → Int32} (hp : p < 2) (hq : q < 2) (hn : p ≠ q) (K : ∃ n, wY_write_74 post (nI p) (nI q) n 0 b_kind b_number b_from b_to b_cond b_nodes b_flows b_variables (co_F b_on (60 * q) (60 * p) 60) b_in b_times b_stored b_clock b_acts b_reached) :
    ∀ d x a, x + d = 60 → a = co_F b_on (60 * q) (60 * p) x → wY_write_38 post (nI p) (nI q) (d + 1) (nI x) b_kind b_number b_from b_to b_cond b_nodes b_flows b_variables a b_in b_times b_stored b_clock b_acts b_reached := by
  intro d
  induction d with
  | zero =>
    intro x a hx ea
    have : x = 60 := by omega
    subst this
    subst ea
    rw [wY_write_38]
    exact br_t (nI_le (Nat.le_refl _) (by omega)) K
  | succ d ih =>
    intro x a hx ea
    subst ea
    have e1 : (60 * nI p + nI x : Int32) = nI (60 * p + x) := ix_m 60 p x
    have e2 : (60 * nI q + nI x : Int32) = nI (60 * q + x) := ix_m 60 q x
    rw [wY_write_38]
    refine br_f (nI_ge (b := 60) (by omega) (by omega)) (And.intro (by rw [e1]; exact vp_in_nI (by omega) (by omega)) (And.intro (by rw [e2]; exact vp_in_nI (by omega) (by omega)) (nm_r (e' := co_F b_on (60 * q) (60 * p) (x + 1)) ?_ (nm_r (nI_1 x) (ih (x + 1) _ (by omega) rfl)))))
    rw [e1, e2, nI_clamp (by omega), nI_clamp (by omega)]
    exact co_s (by omega)
theorem yw_2 {post : SY → Prop} {p q : Nat} {b_kind b_number b_from b_to b_cond b_nodes b_flows b_variables b_on b_in b_times b_stored b_clock b_acts b_reached : Nat → Int32} (hp : p < 2) (hq : q < 2) (hn : p ≠ q) (K : ∃ n, wY_write_38 post (nI p) (nI q) n 0 b_kind b_number b_from b_to b_cond b_nodes b_flows (co_F b_variables (9 * q) (9 * p) 9) b_on b_in b_times b_stored b_clock b_acts b_reached) :
    ∀ d x a, x + d = 9 → a = co_F b_variables (9 * q) (9 * p) x → wY_write_2 post (nI p) (nI q) (d + 1) (nI x) b_kind b_number b_from b_to b_cond b_nodes b_flows a b_on b_in b_times b_stored b_clock b_acts b_reached := by
  intro d
  induction d with
  | zero =>
    intro x a hx ea
    have : x = 9 := by omega
    subst this
    subst ea
    rw [wY_write_2]
    exact br_t (nI_le (Nat.le_refl _) (by omega)) K
  | succ d ih =>
    intro x a hx ea
    subst ea
    have e1 : (9 * nI p + nI x : Int32) = nI (9 * p + x) := ix_m 9 p x
    have e2 : (9 * nI q + nI x : Int32) = nI (9 * q + x) := ix_m 9 q x
    rw [wY_write_2]
    refine br_f (nI_ge (b := 9) (by omega) (by omega)) (And.intro (by rw [e1]; exact vp_in_nI (by omega) (by omega)) (And.intro (by rw [e2]; exact vp_in_nI (by omega) (by omega)) (nm_r (e' := co_F b_variables (9 * q) (9 * p) (x + 1)) ?_ (nm_r (nI_1 x) (ih (x + 1) _ (by omega) rfl)))))
    rw [e1, e2, nI_clamp (by omega), nI_clamp (by omega)]
    exact co_s (by omega)
theorem yl_write {post : SY → Prop} {p q : Nat} {b_kind b_number b_from b_to b_cond b_nodes b_flows b_variables b_on b_in b_times b_stored b_clock b_acts b_reached : Nat → Int32} (hp : p < 2) (hq : q < 2) (hn : p ≠ q) (h : post (b_kind, b_number, b_from, b_to, b_cond, b_nodes, b_flows, co_F b_variables (9 * q) (9 * p) 9, co_F b_on (60 * q) (60 * p) 60, co_F b_in (36 * q) (36 * p) 36, co_F b_times (360 * q) (360 * p) 360, co_F b_stored (3 * q) (3 * p) 3, upd b_clock q (b_clock p), upd b_acts q (b_acts p), b_reached)) : wpY_write post (b_kind, b_number, b_from, b_to, b_cond, b_nodes, b_flows, b_variables, b_on, b_in, b_times, b_stored, b_clock, b_acts, b_reached) (nI p) (nI q) :=
  ⟨10, yw_2 hp hq hn ⟨61, yw_38 hp hq hn ⟨37, yw_74 hp hq hn ⟨361, yw_110 hp hq hn ⟨4, yw_149 hp hq hn h 3 0 _ (by omega) co_0.symm⟩ 360 0 _ (by omega) co_0.symm⟩ 36 0 _ (by omega) co_0.symm⟩ 60 0 _ (by omega) co_0.symm⟩ 9 0 _ (by omega) co_0.symm⟩
theorem yy_Sc {c : DS} {ck ac ck' ac' : Int32} {on inn tm va st on' inn' tm' va' st' : Nat → Int32} (h : yy_S c va on inn tm st ck ac) (h4 : ∀ x, x < 9 → va' x = va x) (h1 : ∀ x, x < 60 → on' x = on x) (h2 : ∀ x, x < 36 → inn' x = inn x) (h3 : ∀ x, x < 360 → tm' x = tm x) (h5 : ∀ x, x < 3 → st' x = st x) (h6 : ck' = ck) (h7 : ac' = ac) : yy_S c va' on' inn' tm' st' ck' ac' :=
  ⟨fun k hk => (h1 k hk).trans (h.1 k hk), fun k hk => (h2 k hk).trans (h.2.1 k hk), fun k hk => (h3 k hk).trans (h.2.2.1 k hk), fun k hk => (h4 k hk).trans (h.2.2.2.1 k hk), fun k hk => (h5 k hk).trans (h.2.2.2.2.1 k hk), h6.trans h.2.2.2.2.2.1, h7.trans h.2.2.2.2.2.2⟩
theorem co_lo {r : Nat → Int32} {m x : Nat} (h : x < m) : co_F r (m * 1) (m * 0) m x = r x := by rw [Nat.mul_one]; exact if_neg (by omega)
theorem co_hi {r : Nat → Int32} {m x : Nat} (h : x < m) : co_F r (m * 1) (m * 0) m (m + x) = r x := by
  rw [Nat.mul_one, Nat.mul_zero]
  refine (if_pos (by omega)).trans ?_
  rw [Nat.add_sub_cancel_left, Nat.zero_add]
theorem co_bl {r : Nat → Int32} {m x : Nat} (h : x < m) : co_F r (m * 0) (m * 1) m x = r (m + x) := by
  rw [Nat.mul_one, Nat.mul_zero]
  refine (if_pos (by omega)).trans ?_
  rw [Nat.sub_zero]
theorem co_bh {r : Nat → Int32} {m x : Nat} : co_F r (m * 0) (m * 1) m (m + x) = r (m + x) := by
  rw [Nat.mul_one, Nat.mul_zero]
  exact if_neg (by omega)
theorem yl_flushS {post : SY → Prop} {N D : NT} {c : DS} {b_kind b_number b_from b_to b_cond b_nodes b_flows b_variables b_on b_in b_times b_stored b_clock b_acts b_reached : Nat → Int32} (RD : xx_D D (b_nodes 1) (b_flows 1) (fun n => b_kind (12 + n)) (fun n => b_number (12 + n)) (fun f => b_from (20 + f)) (fun f => b_to (20 + f)) (fun f => b_cond (20 + f))) (RN : xx_D N (b_nodes 0) (b_flows 0) b_kind b_number b_from b_to b_cond)
    (RS : yy_S c b_variables b_on b_in b_times b_stored (b_clock 0) (b_acts 0)) (h : ∀ v', yy_R N D c c v' → post v') : wpY_write post (b_kind, b_number, b_from, b_to, b_cond, b_nodes, b_flows, b_variables, b_on, b_in, b_times, b_stored, b_clock, b_acts, b_reached) 0 1 :=
  yl_write (p := 0) (q := 1) (by omega) (by omega) (by omega) (h _ ⟨RD, RN, yy_Sc RS (fun x hx => co_lo hx) (fun x hx => co_lo hx) (fun x hx => co_lo hx) (fun x hx => co_lo hx) (fun x hx => co_lo hx) rfl rfl, yy_Sc RS (fun x hx => co_hi hx) (fun x hx => co_hi hx) (fun x hx => co_hi hx) (fun x hx => co_hi hx) (fun x hx => co_hi hx) rfl rfl⟩)
theorem yl_backS {post : SY → Prop} {N D : NT} {c j : DS} {b_kind b_number b_from b_to b_cond b_nodes b_flows b_variables b_on b_in b_times b_stored b_clock b_acts b_reached : Nat → Int32} (R : yy_R N D c j (b_kind, b_number, b_from, b_to, b_cond, b_nodes, b_flows, b_variables, b_on, b_in, b_times, b_stored, b_clock, b_acts, b_reached)) (h : ∀ v', yy_R N D j j v' → post v') : wpY_write post (b_kind, b_number, b_from, b_to, b_cond, b_nodes, b_flows, b_variables, b_on, b_in, b_times, b_stored, b_clock, b_acts, b_reached) 1 0 :=
  yl_write (p := 1) (q := 0) (by omega) (by omega) (by omega) (h _ ⟨R.1, R.2.1, yy_Sc R.2.2.2 (fun x hx => co_bl hx) (fun x hx => co_bl hx) (fun x hx => co_bl hx) (fun x hx => co_bl hx) (fun x hx => co_bl hx) rfl rfl, yy_Sc R.2.2.2 (fun x hx => co_bh) (fun x hx => co_bh) (fun x hx => co_bh) (fun x hx => co_bh) (fun x hx => co_bh) rfl rfl⟩)
theorem yl_li4 {post : Int32 → Prop} {N D : NT} {B : Nat} {c j : DS} {b_kind b_number b_from b_to b_cond b_nodes b_flows b_variables b_on b_in b_times b_stored b_clock b_acts b_reached : Nat → Int32} (W : nt_W N) (I : ic_C N B c) (hB : B < 2 ^ 31) (R : yy_R N D c j (b_kind, b_number, b_from, b_to, b_cond, b_nodes, b_flows, b_variables, b_on, b_in, b_times, b_stored, b_clock, b_acts, b_reached)) (h : post (nI (al_N c 3))) :
    ∀ d i, i + d = 3 → wY_living_4 post b_kind b_number b_from b_to b_cond b_nodes b_flows b_variables b_on b_in b_times b_stored b_clock b_acts b_reached (d + 1) (nI (al_N c i)) (nI i) := by
  intro d
  induction d with
  | zero =>
    intro i hd
    have : i = 3 := by omega
    subst this
    rw [wY_living_4]
    exact br_t (nI_le (Nat.le_refl _) (by omega)) h
  | succ d ih =>
    intro i hd
    have IH := ih (i + 1) (by omega)
    rw [wY_living_4]
    refine br_f (nI_ge (b := 3) (by omega) (by omega)) (yl_alive W I hB R (by omega) (fun q => br_f ix_10 (nm_r (nI_1 _) (nm_r (nI_1 i) ?_))) (fun q => br_t rfl (nm_r (nI_1 i) ?_)))
    · rw [al_1 q] at IH; exact IH
    · rw [al_0 q] at IH; exact IH
theorem yl_living {post : Int32 → Prop} {N D : NT} {B : Nat} {c j : DS} {b_kind b_number b_from b_to b_cond b_nodes b_flows b_variables b_on b_in b_times b_stored b_clock b_acts b_reached : Nat → Int32} (W : nt_W N) (I : ic_C N B c) (hB : B < 2 ^ 31) (R : yy_R N D c j (b_kind, b_number, b_from, b_to, b_cond, b_nodes, b_flows, b_variables, b_on, b_in, b_times, b_stored, b_clock, b_acts, b_reached)) (h : post (nI (al_N c 3))) : wpY_living post (b_kind, b_number, b_from, b_to, b_cond, b_nodes, b_flows, b_variables, b_on, b_in, b_times, b_stored, b_clock, b_acts, b_reached) :=
  ⟨4, yl_li4 W I hB R h 3 0 (by omega)⟩
theorem yl_crash {post : Int32 → SY → Prop} {N D : NT} {B : Nat} {c j : DS} {b_kind b_number b_from b_to b_cond b_nodes b_flows b_variables b_on b_in b_times b_stored b_clock b_acts b_reached : Nat → Int32} (W : nt_W N) (R : yy_R N D c j (b_kind, b_number, b_from, b_to, b_cond, b_nodes, b_flows, b_variables, b_on, b_in, b_times, b_stored, b_clock, b_acts, b_reached)) (I : ic_C N B j) (hB : B < 2 ^ 31) (h : ∀ v', yy_R N D j j v' → post (nI (al_N j 3)) v') : wpY_crash post (b_kind, b_number, b_from, b_to, b_cond, b_nodes, b_flows, b_variables, b_on, b_in, b_times, b_stored, b_clock, b_acts, b_reached) :=
  yl_backS R (yy_all (fun b_kind b_number b_from b_to b_cond b_nodes b_flows b_variables b_on b_in b_times b_stored b_clock b_acts b_reached R => yl_living W I hB R (h _ R)))
/-! X: state's count of those that live -/
theorem xl_st62 {post : Int32 → Prop} {N D : NT} {c j : DS} {f_dNodes f_dFlows f_nodes f_flows f_clock f_acts : Int32} {a_dKind a_dNumber a_dFrom a_dTo a_dWhen a_kind a_number a_from a_to a_when a_comes a_leaves a_reached a_onFlow a_inNode a_ring a_variable a_marked a_holding a_ables a_known a_stored a_journal : Nat → Int32} (R : xx_R N D c j (f_dNodes, f_dFlows, f_nodes, f_flows, f_clock, f_acts, a_dKind, a_dNumber, a_dFrom, a_dTo, a_dWhen, a_kind, a_number, a_from, a_to, a_when, a_comes, a_leaves, a_reached, a_onFlow, a_inNode, a_ring, a_variable, a_marked, a_holding, a_ables, a_known, a_stored, a_journal)) (h : post (nI (al_N c 3))) :
    ∀ d i, i + d = 3 → wX_state_62 post f_dNodes f_dFlows f_nodes f_flows f_clock f_acts a_dKind a_dNumber a_dFrom a_dTo a_dWhen a_kind a_number a_from a_to a_when a_comes a_leaves a_reached a_onFlow a_inNode a_ring a_variable a_marked a_holding a_ables a_known a_stored a_journal (d + 1) (nI (al_N c i)) (nI i) := by
  intro d
  induction d with
  | zero =>
    intro i hd
    have : i = 3 := by omega
    subst this
    rw [wX_state_62]
    exact br_t (nI_le (Nat.le_refl _) (by omega)) h
  | succ d ih =>
    intro i hd
    have IH := ih (i + 1) (by omega)
    rw [wX_state_62]
    refine br_f (nI_ge (b := 3) (by omega) (by omega)) (xl_isAlive R (by omega) (fun q => br_f ix_10 (nm_r (nI_1 _) (nm_r (nI_1 i) ?_))) (fun q => br_t rfl (nm_r (nI_1 i) ?_)))
    · rw [al_1 q] at IH; exact IH
    · rw [al_0 q] at IH; exact IH
end
section
/-! ticks: what they do -/
def ds_E (c c' : DS) : Prop := (∀ k, k < 60 → ds_on c k = ds_on c' k) ∧ (∀ k, k < 36 → ds_in c k = ds_in c' k) ∧ (∀ k, k < 360 → ds_tm c k = ds_tm c' k) ∧ (∀ k, k < 9 → ds_va c k = ds_va c' k) ∧ (∀ k, k < 3 → ds_st c k = ds_st c' k) ∧ ds_ck c = ds_ck c' ∧ ds_ac c = ds_ac c'
theorem ds_Es {c c' : DS} (e : ds_E c c') : ∀ k, k < 36 → ds_sm c k = ds_sm c' k := fun k hk => sm_eq 10 (fun t ht => e.2.2.1 _ (by omega))
theorem xx_RE {N D : NT} {c c' j : DS} {f_dNodes f_dFlows f_nodes f_flows f_clock f_acts : Int32} {a_dKind a_dNumber a_dFrom a_dTo a_dWhen a_kind a_number a_from a_to a_when a_comes a_leaves a_reached a_onFlow a_inNode a_ring a_variable a_marked a_holding a_ables a_known a_stored a_journal : Nat → Int32} (W : nt_D N) (e : ds_E c c') (R : xx_R N D c j (f_dNodes, f_dFlows, f_nodes, f_flows, f_clock, f_acts, a_dKind, a_dNumber, a_dFrom, a_dTo, a_dWhen, a_kind, a_number, a_from, a_to, a_when, a_comes, a_leaves, a_reached, a_onFlow, a_inNode, a_ring, a_variable, a_marked, a_holding, a_ables, a_known, a_stored, a_journal)) : xx_R N D c' j (f_dNodes, f_dFlows, f_nodes, f_flows, f_clock, f_acts, a_dKind, a_dNumber, a_dFrom, a_dTo, a_dWhen, a_kind, a_number, a_from, a_to, a_when, a_comes, a_leaves, a_reached, a_onFlow, a_inNode, a_ring, a_variable, a_marked, a_holding, a_ables, a_known, a_stored, a_journal) := by
  obtain ⟨RD, RN, RS, RM, RJ⟩ := R
  obtain ⟨e1, e2, e3, e4, e5, e6, e7⟩ := e
  refine ⟨RD, RN, ⟨fun k hk => by rw [← e1 k hk]; exact RS.1 k hk, fun k hk => by rw [← e2 k hk]; exact RS.2.1 k hk, fun k t hk ht => by rw [← e3 _ (by omega), ← e6]; exact RS.2.2.1 k t hk ht, fun k hk => by rw [← e4 k hk]; exact RS.2.2.2.1 k hk, fun k hk => by rw [← e5 k hk]; exact RS.2.2.2.2.1 k hk, by rw [← e6]; exact RS.2.2.2.2.2.1, by rw [← e7]; exact RS.2.2.2.2.2.2⟩, fun i hi => xx_Kc W.1 W.2.1 (RM i hi) (fun f hf => ?_) (fun n hn => ?_), RJ⟩
  · unfold ds_P; rw [e1 _ (by omega)]
  · unfold ds_Q; rw [e2 _ (by omega)]
theorem yy_RE {N D : NT} {c c' j : DS} {b_kind b_number b_from b_to b_cond b_nodes b_flows b_variables b_on b_in b_times b_stored b_clock b_acts b_reached : Nat → Int32} (e : ds_E c c') (R : yy_R N D c j (b_kind, b_number, b_from, b_to, b_cond, b_nodes, b_flows, b_variables, b_on, b_in, b_times, b_stored, b_clock, b_acts, b_reached)) : yy_R N D c' j (b_kind, b_number, b_from, b_to, b_cond, b_nodes, b_flows, b_variables, b_on, b_in, b_times, b_stored, b_clock, b_acts, b_reached) := by
  have es := ds_Es e
  obtain ⟨RD, RN, RS, RJ⟩ := R
  obtain ⟨e1, e2, e3, e4, e5, e6, e7⟩ := e
  exact ⟨RD, RN, ⟨fun k hk => by rw [← e1 k hk]; exact RS.1 k hk, fun k hk => by rw [← e2 k hk, ← es k hk]; exact RS.2.1 k hk, fun k hk => by rw [← e3 k hk]; exact RS.2.2.1 k hk, fun k hk => by rw [← e4 k hk]; exact RS.2.2.2.1 k hk, fun k hk => by rw [← e5 k hk]; exact RS.2.2.2.2.1 k hk, by rw [← e6]; exact RS.2.2.2.2.2.1, by rw [← e7]; exact RS.2.2.2.2.2.2⟩, RJ⟩
theorem ic_E {N : NT} {B : Nat} {c c' : DS} (W : nt_D N) (e : ds_E c c') (I : ic_C N B c) : ic_C N B c' := by
  have es := ds_Es e
  have W12 := W.1
  have W20 := W.2.1
  obtain ⟨e1, e2, e3, e4, e5, e6, e7⟩ := e
  refine ⟨fun i f h1 h2 h3 => ?_, fun i f h1 h2 => ?_, fun i n h1 h2 h3 => ?_, fun i n t h1 h2 ht h3 => ?_, fun i n h1 h2 h3 => ?_, fun m hm => ?_, ?_, ?_⟩
  · rw [← e1 _ (by omega)]; exact I.1 i f h1 h2 h3
  · have := (W.2.2.1 f h2).1
    rw [← e1 _ (by omega), ← e2 _ (by omega)]; exact I.2.1 i f h1 h2
  · rw [← e2 _ (by omega)] at h3; exact I.2.2.1 i n h1 h2 h3
  · rw [← e3 _ (by omega)] at h3; exact I.2.2.2.1 i n t h1 h2 ht h3
  · rw [← e2 _ (by omega), ← es _ (by omega)]; exact I.2.2.2.2.1 i n h1 h2 h3
  · rw [← e5 _ hm]; exact I.2.2.2.2.2.1 m hm
  · rw [← e6]; exact I.2.2.2.2.2.2.1
  · rw [← e7]; exact I.2.2.2.2.2.2.2
theorem ds_Et {c c' c'' : DS} (e : ds_E c c') (g : ds_E c' c'') : ds_E c c'' :=
  ⟨fun k hk => (e.1 k hk).trans (g.1 k hk), fun k hk => (e.2.1 k hk).trans (g.2.1 k hk), fun k hk => (e.2.2.1 k hk).trans (g.2.2.1 k hk), fun k hk => (e.2.2.2.1 k hk).trans (g.2.2.2.1 k hk), fun k hk => (e.2.2.2.2.1 k hk).trans (g.2.2.2.2.1 k hk), e.2.2.2.2.2.1.trans g.2.2.2.2.2.1, e.2.2.2.2.2.2.trans g.2.2.2.2.2.2⟩
/-- the tokens of row k that d ticks make due -/
def tk_du (c : DS) (d k : Nat) : Nat := sm_N (fun t => if t ≤ d then ds_tm c (10 * k + t) else 0) 10
/-- d ticks, for the rows below K -/
def tk_C (N : NT) (d : Nat) (c : DS) (K : Nat) : DS :=
  (fun q => ds_on c q + (if (q % 20 < nt_f N ∧ nt_lv N (nt_fr N (q % 20)) = q % 20) ∧ 12 * (q / 20) + nt_fr N (q % 20) < K then tk_du c d (12 * (q / 20) + nt_fr N (q % 20)) else 0),
   fun k => if k < K then ds_in c k - tk_du c d k else ds_in c k,
   fun q => if q / 10 < K then (if 1 ≤ q % 10 ∧ q % 10 + d ≤ 9 then ds_tm c (q + d) else 0) else ds_tm c q, ds_va c, ds_st c, ds_ck c + d, ds_ac c)
theorem tk_on {N : NT} {d K : Nat} {c : DS} (q : Nat) : ds_on (tk_C N d c K) q = ds_on c q + (if (q % 20 < nt_f N ∧ nt_lv N (nt_fr N (q % 20)) = q % 20) ∧ 12 * (q / 20) + nt_fr N (q % 20) < K then tk_du c d (12 * (q / 20) + nt_fr N (q % 20)) else 0) := rfl
theorem tk_in {N : NT} {d K : Nat} {c : DS} (k : Nat) : ds_in (tk_C N d c K) k = if k < K then ds_in c k - tk_du c d k else ds_in c k := rfl
theorem tk_tm {N : NT} {d K : Nat} {c : DS} (q : Nat) : ds_tm (tk_C N d c K) q = if q / 10 < K then (if 1 ≤ q % 10 ∧ q % 10 + d ≤ 9 then ds_tm c (q + d) else 0) else ds_tm c q := rfl
theorem tk_tm36 {N : NT} {d k t : Nat} {c : DS} (hk : k < 36) (ht : t < 10) : ds_tm (tk_C N d c 36) (10 * k + t) = if 1 ≤ t ∧ t + d ≤ 9 then ds_tm c (10 * k + t + d) else 0 := by
  rw [tk_tm, if_pos (by omega), show (10 * k + t) % 10 = t from by omega]
theorem tk_s {a : Nat → Nat} {d : Nat} : ∀ n, sm_N (fun t => if t ≤ d + 1 then a t else 0) n = sm_N (fun t => if t ≤ d then a t else 0) n + (if d + 1 < n then a (d + 1) else 0) := by
  intro n
  induction n with
  | zero => rfl
  | succ n ih =>
    show sm_N (fun t => if t ≤ d + 1 then a t else 0) n + (if n ≤ d + 1 then a n else 0) = sm_N (fun t => if t ≤ d then a t else 0) n + (if n ≤ d then a n else 0) + _
    rw [ih]
    rcases Nat.lt_trichotomy n (d + 1) with q | q | q
    · rw [if_pos (show n ≤ d + 1 by omega), if_pos (show n ≤ d by omega), if_neg (show ¬ d + 1 < n by omega), if_neg (show ¬ d + 1 < n + 1 by omega)]
      omega
    · subst q
      rw [if_pos (Nat.le_refl _), if_neg (show ¬ d + 1 < d + 1 by omega), if_neg (show ¬ d + 1 ≤ d by omega), if_pos (show d + 1 < d + 1 + 1 by omega)]
    · rw [if_neg (show ¬ n ≤ d + 1 by omega), if_neg (show ¬ n ≤ d by omega), if_pos (show d + 1 < n by omega), if_pos (show d + 1 < n + 1 by omega)]
      omega
theorem tk_du1 {c : DS} {d k : Nat} : tk_du c (d + 1) k = tk_du c d k + (if d + 1 < 10 then ds_tm c (10 * k + (d + 1)) else 0) := tk_s (a := fun t => ds_tm c (10 * k + t)) 10
theorem tk_duE {N : NT} {c : DS} {d k : Nat} (hk : k < 36) : tk_du (tk_C N d c 36) 1 k = if d + 1 < 10 then ds_tm c (10 * k + (d + 1)) else 0 := by
  unfold tk_du
  have e : ∀ t, t < 10 → (if t ≤ 1 then ds_tm (tk_C N d c 36) (10 * k + t) else 0) = if t = 1 then (if d + 1 < 10 then ds_tm c (10 * k + (d + 1)) else 0) else 0 := by
    intro t ht
    by_cases q : t ≤ 1
    · rw [if_pos q, tk_tm36 hk ht]
      by_cases r : t = 1
      · subst r
        rw [if_pos rfl]
        by_cases w : d + 1 < 10
        · rw [if_pos w, if_pos (by omega), show 10 * k + 1 + d = 10 * k + (d + 1) from by omega]
        · rw [if_neg w, if_neg (by omega)]
      · rw [if_neg r, if_neg (by omega)]
    · rw [if_neg q, if_neg (by omega)]
  rw [sm_eq 10 e]
  generalize (if d + 1 < 10 then ds_tm c (10 * k + (d + 1)) else 0) = x
  show 0 + 0 + x + 0 + 0 + 0 + 0 + 0 + 0 + 0 + 0 = x
  omega
/-- one more tick -/
theorem tk_comp {N : NT} {c : DS} {d : Nat} (W : nt_D N) : ds_E (tk_C N 1 (tk_C N d c 36) 36) (tk_C N (d + 1) c 36) := by
  have W12 := W.1
  refine ⟨fun q hq => ?_, fun k hk => ?_, fun q hq => ?_, fun k _ => rfl, fun k _ => rfl, rfl, rfl⟩
  · rw [tk_on, tk_on, tk_on]
    by_cases e : (q % 20 < nt_f N ∧ nt_lv N (nt_fr N (q % 20)) = q % 20) ∧ 12 * (q / 20) + nt_fr N (q % 20) < 36
    · rw [if_pos e, if_pos e, if_pos e, tk_duE e.2, tk_du1, Nat.add_assoc]
    · rw [if_neg e, if_neg e, if_neg e]
  · rw [tk_in, tk_in, tk_in, if_pos hk, if_pos hk, if_pos hk, tk_duE hk, tk_du1, Nat.sub_sub]
  · obtain ⟨k, t, ht, rfl⟩ : ∃ k t, t < 10 ∧ q = 10 * k + t := ⟨q / 10, q % 10, by omega, by omega⟩
    rw [tk_tm36 (by omega) ht, tk_tm36 (by omega) ht]
    by_cases e : 1 ≤ t ∧ t + 1 ≤ 9
    · rw [if_pos e, show 10 * k + t + 1 = 10 * k + (t + 1) from rfl, tk_tm36 (by omega) (by omega)]
      by_cases r : t + (d + 1) ≤ 9
      · rw [if_pos (by omega), if_pos (by omega), show 10 * k + (t + 1) + d = 10 * k + t + (d + 1) from by omega]
      · rw [if_neg (by omega), if_neg (by omega)]
    · rw [if_neg e, if_neg (by omega)]
theorem tk_sm1 {N : NT} {c : DS} {k : Nat} (hk : k < 36) : ds_sm (tk_C N 1 c 36) k + tk_du c 1 k = ds_sm c k := by
  have e : ds_sm (tk_C N 1 c 36) k = sm_N (fun t => if 1 ≤ t ∧ t + 1 ≤ 9 then ds_tm c (10 * k + t + 1) else 0) 10 := sm_eq 10 (fun t ht => tk_tm36 hk ht)
  rw [e]
  show (0 + 0 + ds_tm c (10 * k + 1 + 1) + ds_tm c (10 * k + 2 + 1) + ds_tm c (10 * k + 3 + 1) + ds_tm c (10 * k + 4 + 1) + ds_tm c (10 * k + 5 + 1) + ds_tm c (10 * k + 6 + 1) + ds_tm c (10 * k + 7 + 1) + ds_tm c (10 * k + 8 + 1) + 0) + (0 + ds_tm c (10 * k + 0) + ds_tm c (10 * k + 1) + 0 + 0 + 0 + 0 + 0 + 0 + 0 + 0) = 0 + ds_tm c (10 * k + 0) + ds_tm c (10 * k + 1) + ds_tm c (10 * k + 2) + ds_tm c (10 * k + 3) + ds_tm c (10 * k + 4) + ds_tm c (10 * k + 5) + ds_tm c (10 * k + 6) + ds_tm c (10 * k + 7) + ds_tm c (10 * k + 8) + ds_tm c (10 * k + 9)
  rw [show 10 * k + 1 + 1 = 10 * k + 2 from rfl, show 10 * k + 2 + 1 = 10 * k + 3 from rfl, show 10 * k + 3 + 1 = 10 * k + 4 from rfl, show 10 * k + 4 + 1 = 10 * k + 5 from rfl, show 10 * k + 5 + 1 = 10 * k + 6 from rfl, show 10 * k + 6 + 1 = 10 * k + 7 from rfl, show 10 * k + 7 + 1 = 10 * k + 8 from rfl, show 10 * k + 8 + 1 = 10 * k + 9 from rfl]
  omega
theorem tk_sm0 {N : NT} {c : DS} {k : Nat} (hk : k < 36) : ds_sm (tk_C N 0 c 36) k + tk_du c 0 k = ds_sm c k := by
  have e : ds_sm (tk_C N 0 c 36) k = sm_N (fun t => if 1 ≤ t ∧ t + 0 ≤ 9 then ds_tm c (10 * k + t) else 0) 10 := sm_eq 10 (fun t ht => tk_tm36 hk ht)
  rw [e]
  show (0 + 0 + ds_tm c (10 * k + 1) + ds_tm c (10 * k + 2) + ds_tm c (10 * k + 3) + ds_tm c (10 * k + 4) + ds_tm c (10 * k + 5) + ds_tm c (10 * k + 6) + ds_tm c (10 * k + 7) + ds_tm c (10 * k + 8) + ds_tm c (10 * k + 9)) + (0 + ds_tm c (10 * k + 0) + 0 + 0 + 0 + 0 + 0 + 0 + 0 + 0 + 0) = 0 + ds_tm c (10 * k + 0) + ds_tm c (10 * k + 1) + ds_tm c (10 * k + 2) + ds_tm c (10 * k + 3) + ds_tm c (10 * k + 4) + ds_tm c (10 * k + 5) + ds_tm c (10 * k + 6) + ds_tm c (10 * k + 7) + ds_tm c (10 * k + 8) + ds_tm c (10 * k + 9)
  omega
theorem tk_sm {N : NT} {c : DS} {k : Nat} (W : nt_D N) (hk : k < 36) : ∀ d, ds_sm (tk_C N d c 36) k + tk_du c d k = ds_sm c k := by
  intro d
  induction d with
  | zero => exact tk_sm0 hk
  | succ d ih =>
    have a := ds_Es (tk_comp (c := c) (d := d) W) k hk
    have b := tk_sm1 (N := N) (c := tk_C N d c 36) hk
    rw [a, tk_duE hk] at b
    rw [tk_du1]
    omega
theorem tk_zero {N : NT} {B : Nat} {c : DS} (W : nt_D N) (I : ic_C N B c) : ds_E c (tk_C N 0 c 36) := by
  have z : ∀ k, k < 36 → ds_tm c (10 * k) = 0 := fun k hk => by
    by_cases e : 0 < ds_tm c (10 * k)
    · have := I.2.2.2.1 (k / 12) (k % 12) 0 (by omega) (by omega) (by omega)
      rw [show 10 * (12 * (k / 12) + k % 12) + 0 = 10 * k from by omega] at this
      have := (this e).2.2
      omega
    · omega
  have d0 : ∀ k, k < 36 → tk_du c 0 k = 0 := fun k hk => sm_0 10 (fun t ht => by
    by_cases e : t ≤ 0
    · rw [if_pos e, show 10 * k + t = 10 * k from by omega]; exact z k hk
    · exact if_neg e)
  refine ⟨fun q hq => ?_, fun k hk => ?_, fun q hq => ?_, fun k _ => rfl, fun k _ => rfl, rfl, rfl⟩
  · rw [tk_on]
    by_cases e : (q % 20 < nt_f N ∧ nt_lv N (nt_fr N (q % 20)) = q % 20) ∧ 12 * (q / 20) + nt_fr N (q % 20) < 36
    · rw [if_pos e, d0 _ e.2]; rfl
    · rw [if_neg e]; rfl
  · rw [tk_in, if_pos hk, d0 k hk]; rfl
  · obtain ⟨k, t, ht, rfl⟩ : ∃ k t, t < 10 ∧ q = 10 * k + t := ⟨q / 10, q % 10, by omega, by omega⟩
    rw [tk_tm36 (by omega) ht]
    by_cases e : 1 ≤ t
    · rw [if_pos (by omega)]; rfl
    · rw [if_neg (by omega), show 10 * k + t = 10 * k from by omega]; exact z k (by omega)
theorem tk_dul {c : DS} {d k : Nat} : tk_du c d k ≤ ds_sm c k := by
  have : ∀ n, sm_N (fun t => if t ≤ d then ds_tm c (10 * k + t) else 0) n ≤ sm_N (fun t => ds_tm c (10 * k + t)) n := by
    intro n
    induction n with
    | zero => exact Nat.le_refl _
    | succ n ih =>
      show _ + (if n ≤ d then ds_tm c (10 * k + n) else 0) ≤ _ + ds_tm c (10 * k + n)
      by_cases e : n ≤ d
      · rw [if_pos e]; omega
      · rw [if_neg e]; omega
  exact this 10
theorem ic_tk1 {N : NT} {B : Nat} {c : DS} (W : nt_W N) (I : ic_C N B c) : ic_C N (B + 1) (tk_C N 1 c 36) := by
  have W12 := W.1.1
  have W20 := W.1.2.1
  have dl : ∀ i n, i < 3 → n < 12 → tk_du c 1 (12 * i + n) ≤ ds_in c (12 * i + n) := fun i n h1 h2 => Nat.le_trans tk_dul (ic_sml I h1 h2)
  have li : ∀ k, ds_in (tk_C N 1 c 36) k ≤ ds_in c k := fun k => by
    rw [tk_in]
    by_cases e : k < 36
    · rw [if_pos e]; omega
    · rw [if_neg e]; exact Nat.le_refl _
  refine ⟨fun i f h1 h2 h3 => ?_, fun i f h1 h2 => ?_, fun i n h1 h2 h3 => ?_, fun i n t h1 h2 ht h3 => ?_, fun i n h1 h2 h3 => ?_, I.2.2.2.2.2.1, Nat.succ_le_succ I.2.2.2.2.2.2.1, Nat.le_succ_of_le I.2.2.2.2.2.2.2⟩
  · rw [tk_on, if_neg (fun z => by omega), I.1 i f h1 h2 h3]
  · have a := I.2.1 i f h1 h2
    have hf := (W.1.2.2.1 f h2).1
    have b := li (12 * i + nt_fr N f)
    rw [tk_on, show (20 * i + f) % 20 = f from by omega, show (20 * i + f) / 20 = i from by omega]
    by_cases e : (f < nt_f N ∧ nt_lv N (nt_fr N f) = f) ∧ 12 * i + nt_fr N f < 36
    · rw [if_pos e, tk_in, if_pos e.2]
      have := dl i (nt_fr N f) h1 (by omega)
      omega
    · rw [if_neg e]; omega
  · exact I.2.2.1 i n h1 h2 (Nat.lt_of_lt_of_le h3 (li _))
  · rw [tk_tm36 (by omega) ht] at h3
    by_cases e : 1 ≤ t ∧ t + 1 ≤ 9
    · rw [if_pos e] at h3
      have := I.2.2.2.1 i n (t + 1) h1 h2 (by omega) h3
      exact ⟨this.1, this.2.1, by omega⟩
    · rw [if_neg e] at h3; omega
  · have a := I.2.2.2.2.1 i n h1 h2 h3
    have b := tk_sm1 (N := N) (c := c) (k := 12 * i + n) (by omega)
    rw [tk_in, if_pos (by omega)]
    omega
theorem ic_tkd {N : NT} {B : Nat} {c : DS} (W : nt_W N) (I : ic_C N B c) : ∀ d, ic_C N (B + d) (tk_C N d c 36) := by
  intro d
  induction d with
  | zero => exact ic_E W.1 (tk_zero W.1 I) I
  | succ d ih => exact ic_E W.1 (tk_comp W.1) (ic_tk1 W ih)
/-- how many tokens d ticks let go on -/
def tk_G (c : DS) (d : Nat) : Nat := sm_N (fun k => tk_du c d k) 36
theorem sm_add {f g : Nat → Nat} : ∀ n, sm_N (fun k => f k + g k) n = sm_N f n + sm_N g n := by
  intro n
  induction n with
  | zero => rfl
  | succ n ih =>
    show sm_N (fun k => f k + g k) n + (f n + g n) = sm_N f n + f n + (sm_N g n + g n)
    rw [ih]
    omega
theorem tk_G1 {N : NT} {c : DS} {d : Nat} : tk_G c d + tk_G (tk_C N d c 36) 1 = tk_G c (d + 1) := by
  unfold tk_G
  rw [← sm_add]
  exact sm_eq 36 (fun k hk => by rw [tk_duE hk, tk_du1])
theorem tk_G0 {N : NT} {B : Nat} {c : DS} (I : ic_C N B c) : tk_G c 0 = 0 := by
  refine sm_0 36 (fun k hk => sm_0 10 (fun t ht => ?_))
  by_cases e : t ≤ 0
  · rw [if_pos e]
    by_cases q : 0 < ds_tm c (10 * k + t)
    · have := I.2.2.2.1 (k / 12) (k % 12) t (by omega) (by omega) ht
      rw [show 10 * (12 * (k / 12) + k % 12) + t = 10 * k + t from by omega] at this
      have := (this q).2.2
      omega
    · omega
  · exact if_neg e
end
section
/-! X: tick -/
def dc_clk (c : DS) : DS := (ds_on c, ds_in c, fun q => ds_tm c (10 * (q / 10) + (q % 10 + 1) % 10), ds_va c, ds_st c, ds_ck c + 1, ds_ac c)
theorem dc_clkt {c : DS} {k t : Nat} (ht : t < 10) : ds_tm (dc_clk c) (10 * k + t) = ds_tm c (10 * k + (t + 1) % 10) := by
  show ds_tm c (10 * ((10 * k + t) / 10) + ((10 * k + t) % 10 + 1) % 10) = _
  rw [show (10 * k + t) / 10 = k from by omega, show (10 * k + t) % 10 = t from by omega]
/-- q of the tokens of node n that are due have gone on -/
def dc_due (N : NT) (c : DS) (i n q : Nat) : DS := (un_U (ds_on c) (20 * i + nt_lv N n) (ds_on c (20 * i + nt_lv N n) + q), un_U (ds_in c) (12 * i + n) (ds_in c (12 * i + n) - q), un_U (ds_tm c) (10 * (12 * i + n)) (ds_tm c (10 * (12 * i + n)) - q), ds_va c, ds_st c, ds_ck c, ds_ac c)
theorem un_un {g : Nat → Nat} {a x y : Nat} : un_U (un_U g a x) a y = un_U g a y := by
  funext j
  by_cases e : j = a
  · subst e; rw [un_s, un_s]
  · rw [un_n e, un_n e, un_n e]
theorem un_id {g : Nat → Nat} {a : Nat} : un_U g a (g a) = g := by
  funext j
  by_cases e : j = a
  · subst e; exact un_s
  · exact un_n e
theorem due_0 {N : NT} {c : DS} {i n : Nat} : dc_due N c i n 0 = c := by
  unfold dc_due
  rw [Nat.add_zero, Nat.sub_zero, Nat.sub_zero, un_id, un_id, un_id]
  rfl
theorem due_s {N : NT} {c : DS} {i n q : Nat} : dc_tm (dc_gon N (dc_due N c i n q) i n) (un_U (ds_tm c) (10 * (12 * i + n)) (ds_tm c (10 * (12 * i + n)) - (q + 1))) = dc_due N c i n (q + 1) := by
  have e1 : ds_on (dc_gon N (dc_due N c i n q) i n) = un_U (ds_on c) (20 * i + nt_lv N n) (ds_on c (20 * i + nt_lv N n) + (q + 1)) := by
    show un_U (un_U (ds_on c) (20 * i + nt_lv N n) (ds_on c (20 * i + nt_lv N n) + q)) (20 * i + nt_lv N n) (un_U (ds_on c) (20 * i + nt_lv N n) (ds_on c (20 * i + nt_lv N n) + q) (20 * i + nt_lv N n) + 1) = _
    rw [un_un, un_s]
    rfl
  have e2 : ds_in (dc_gon N (dc_due N c i n q) i n) = un_U (ds_in c) (12 * i + n) (ds_in c (12 * i + n) - (q + 1)) := by
    show un_U (un_U (ds_in c) (12 * i + n) (ds_in c (12 * i + n) - q)) (12 * i + n) (un_U (ds_in c) (12 * i + n) (ds_in c (12 * i + n) - q) (12 * i + n) - 1) = _
    rw [un_un, un_s]
    rfl
  unfold dc_tm
  rw [e1, e2]
  rfl
theorem xl_t73 {post : Int32 → SX → Prop} {J24 J48 : Int32 → Int32 → Int32 → Int32 → Int32 → Int32 → Int32 → Int32 → (Nat → Int32) → (Nat → Int32) → (Nat → Int32) → (Nat → Int32) → (Nat → Int32) → (Nat → Int32) → (Nat → Int32) → (Nat → Int32) → (Nat → Int32) → (Nat → Int32) → (Nat → Int32) → (Nat → Int32) → (Nat → Int32) → (Nat → Int32) → (Nat → Int32) → (Nat → Int32) → (Nat → Int32) → (Nat → Int32) → (Nat → Int32) → (Nat → Int32) → (Nat → Int32) → (Nat → Int32) → (Nat → Int32) → Prop}
    {N D : NT} {c j : DS} {i n s m r : Nat} {x1 x3 : Int32} (W : nt_W N) (hi : i < 3) (hn : n < 12) (hm : m = ds_tm c (10 * (12 * i + n))) (hl : 0 < m → n < nt_n N ∧ ∃ f, f < nt_f N ∧ nt_fr N f = n) (hin : m ≤ ds_in c (12 * i + n)) (hb : ds_in c (12 * i + n) < 2 ^ 31) (hr : r = 10 * (12 * i + n) + ds_ck c % 10)
    (K : ∀ {f_dNodes f_dFlows f_nodes f_flows f_clock f_acts : Int32} {a_dKind a_dNumber a_dFrom a_dTo a_dWhen a_kind a_number a_from a_to a_when a_comes a_leaves a_reached a_onFlow a_inNode a_ring a_variable a_marked a_holding a_ables a_known a_stored a_journal : Nat → Int32}, xx_R N D (dc_due N c i n m) j (f_dNodes, f_dFlows, f_nodes, f_flows, f_clock, f_acts, a_dKind, a_dNumber, a_dFrom, a_dTo, a_dWhen, a_kind, a_number, a_from, a_to, a_when, a_comes, a_leaves, a_reached, a_onFlow, a_inNode, a_ring, a_variable, a_marked, a_holding, a_ables, a_known, a_stored, a_journal) → J48 (nI (s + m)) (nI (r + 10)) f_dNodes f_dFlows f_nodes f_flows f_clock f_acts a_dKind a_dNumber a_dFrom a_dTo a_dWhen a_kind a_number a_from a_to a_when a_comes a_leaves a_reached a_onFlow a_inNode a_ring a_variable a_marked a_holding a_ables a_known a_stored a_journal) :
    ∀ d q {f_dNodes f_dFlows f_nodes f_flows f_clock f_acts : Int32} {a_dKind a_dNumber a_dFrom a_dTo a_dWhen a_kind a_number a_from a_to a_when a_comes a_leaves a_reached a_onFlow a_inNode a_ring a_variable a_marked a_holding a_ables a_known a_stored a_journal : Nat → Int32}, q + d = m → xx_R N D (dc_due N c i n q) j (f_dNodes, f_dFlows, f_nodes, f_flows, f_clock, f_acts, a_dKind, a_dNumber, a_dFrom, a_dTo, a_dWhen, a_kind, a_number, a_from, a_to, a_when, a_comes, a_leaves, a_reached, a_onFlow, a_inNode, a_ring, a_variable, a_marked, a_holding, a_ables, a_known, a_stored, a_journal) → wX_tick_73 post J24 J48 x1 x3 (nI r) (nI i) (nI n) (d + 1) (nI (s + q)) f_dNodes f_dFlows f_nodes f_flows f_clock f_acts a_dKind a_dNumber a_dFrom a_dTo a_dWhen a_kind a_number a_from a_to a_when a_comes a_leaves a_reached a_onFlow a_inNode a_ring a_variable a_marked a_holding a_ables a_known a_stored a_journal := by
  have vr : vp_in (nI r) 360 := vp_in_nI (by omega) (by omega)
  have kr : (nI r).toNatClampNeg = r := nI_clamp (by omega)
  intro d
  induction d with
  | zero =>
    intro q f_dNodes f_dFlows f_nodes f_flows f_clock f_acts a_dKind a_dNumber a_dFrom a_dTo a_dWhen a_kind a_number a_from a_to a_when a_comes a_leaves a_reached a_onFlow a_inNode a_ring a_variable a_marked a_holding a_ables a_known a_stored a_journal hd R
    have e : q = m := by omega
    subst e
    have er := R.2.2.1.2.2.1 (12 * i + n) 0 (by omega) (by omega)
    have er2 : a_ring r = nI (un_U (ds_tm c) (10 * (12 * i + n)) (ds_tm c (10 * (12 * i + n)) - q) (10 * (12 * i + n))) := by rw [hr]; exact er
    rw [un_s] at er2
    rw [wX_tick_73]
    refine And.intro vr ?_
    rw [kr]
    exact pk_le (ds_tm c (10 * (12 * i + n)) - q) 0 (fun _ => nm_r (nI_add r 10) (K R)) (fun z => absurd z (by omega)) er2 rfl
  | succ d ih =>
    intro q f_dNodes f_dFlows f_nodes f_flows f_clock f_acts a_dKind a_dNumber a_dFrom a_dTo a_dWhen a_kind a_number a_from a_to a_when a_comes a_leaves a_reached a_onFlow a_inNode a_ring a_variable a_marked a_holding a_ables a_known a_stored a_journal hd R
    have er := R.2.2.1.2.2.1 (12 * i + n) 0 (by omega) (by omega)
    have er2 : a_ring r = nI (un_U (ds_tm c) (10 * (12 * i + n)) (ds_tm c (10 * (12 * i + n)) - q) (10 * (12 * i + n))) := by rw [hr]; exact er
    rw [un_s] at er2
    obtain ⟨hnn, hlv⟩ := hl (by omega)
    have ein : ds_in (dc_due N c i n q) (12 * i + n) = ds_in c (12 * i + n) - q := un_s
    rw [wX_tick_73]
    refine And.intro vr ?_
    rw [kr]
    refine pk_le (ds_tm c (10 * (12 * i + n)) - q) 0 (fun z => absurd z (by omega)) (fun _ => ?_) er2 rfl
    refine xl_goOn W R hi hnn hlv (by omega) (by omega) (xx_all (fun f_dNodes f_dFlows f_nodes f_flows f_clock f_acts a_dKind a_dNumber a_dFrom a_dTo a_dWhen a_kind a_number a_from a_to a_when a_comes a_leaves a_reached a_onFlow a_inNode a_ring a_variable a_marked a_holding a_ables a_known a_stored a_journal R => nm_r (nI_1 (s + q)) (And.intro vr (And.intro vr (nm_r (e' := upd a_ring r (nI (ds_tm c (10 * (12 * i + n)) - (q + 1)))) ?_ (ih (q + 1) (by omega) ?_))))))
    · have er := R.2.2.1.2.2.1 (12 * i + n) 0 (by omega) (by omega)
      have er2 : a_ring r = nI (un_U (ds_tm c) (10 * (12 * i + n)) (ds_tm c (10 * (12 * i + n)) - q) (10 * (12 * i + n))) := by rw [hr]; exact er
      rw [un_s] at er2
      rw [er2]
      exact congrArg _ (pk_sub (b := 1) (by omega))
    · rw [← due_s]
      obtain ⟨RD, RN, RS, RM, RJ⟩ := R
      refine ⟨RD, RN, ⟨RS.1, RS.2.1, fun k t hk ht => ?_, RS.2.2.2⟩, RM, RJ⟩
      show upd a_ring r _ (10 * k + (ds_ck c + t) % 10) = nI (un_U (ds_tm c) (10 * (12 * i + n)) _ (10 * k + t))
      by_cases e : 10 * k + t = 10 * (12 * i + n)
      · rw [e, un_s, show 10 * k + (ds_ck c + t) % 10 = r from by
          have : k = 12 * i + n := by omega
          have : t = 0 := by omega
          subst this
          omega, pk_us]
      · rw [un_n e, pk_un (by omega)]
        have := RS.2.2.1 k t hk ht
        have e2 : a_ring (10 * k + (ds_ck c + t) % 10) = nI (un_U (ds_tm c) (10 * (12 * i + n)) (ds_tm c (10 * (12 * i + n)) - q) (10 * k + t)) := this
        rw [un_n e] at e2
        exact e2
/-- one tick, for the rows below K, behind the clock -/
def rw_C (N : NT) (c : DS) (K : Nat) : DS :=
  (fun q => ds_on c q + (if (q % 20 < nt_f N ∧ nt_lv N (nt_fr N (q % 20)) = q % 20) ∧ 12 * (q / 20) + nt_fr N (q % 20) < K then ds_tm c (10 * (12 * (q / 20) + nt_fr N (q % 20))) else 0),
   fun k => if k < K then ds_in c k - ds_tm c (10 * k) else ds_in c k,
   fun q => if q % 10 = 0 ∧ q / 10 < K then 0 else ds_tm c q, ds_va c, ds_st c, ds_ck c, ds_ac c)
theorem rw_on {N : NT} {K : Nat} {c : DS} (q : Nat) : ds_on (rw_C N c K) q = ds_on c q + (if (q % 20 < nt_f N ∧ nt_lv N (nt_fr N (q % 20)) = q % 20) ∧ 12 * (q / 20) + nt_fr N (q % 20) < K then ds_tm c (10 * (12 * (q / 20) + nt_fr N (q % 20))) else 0) := rfl
theorem rw_in {N : NT} {K : Nat} {c : DS} (k : Nat) : ds_in (rw_C N c K) k = if k < K then ds_in c k - ds_tm c (10 * k) else ds_in c k := rfl
theorem rw_tm {N : NT} {K : Nat} {c : DS} (q : Nat) : ds_tm (rw_C N c K) q = if q % 10 = 0 ∧ q / 10 < K then 0 else ds_tm c q := rfl
theorem rw_0 {N : NT} {c : DS} : ds_E c (rw_C N c 0) := by
  refine ⟨fun q hq => ?_, fun k hk => ?_, fun q hq => ?_, fun k _ => rfl, fun k _ => rfl, rfl, rfl⟩
  · rw [rw_on, if_neg (by omega)]; rfl
  · rw [rw_in, if_neg (by omega)]
  · rw [rw_tm, if_neg (by omega)]
theorem rw_s {N : NT} {c : DS} {i n : Nat} (W : nt_D N) (hi : i < 3) (hn : n < 12) (hl : 0 < ds_tm c (10 * (12 * i + n)) → n < nt_n N ∧ ∃ f, f < nt_f N ∧ nt_fr N f = n) : ds_E (dc_due N (rw_C N c (12 * i + n)) i n (ds_tm c (10 * (12 * i + n)))) (rw_C N c (12 * i + n + 1)) := by
  have W12 := W.1
  have W20 := W.2.1
  refine ⟨fun q hq => ?_, fun k hk => ?_, fun q hq => ?_, fun k _ => rfl, fun k _ => rfl, rfl, rfl⟩
  · show un_U (ds_on (rw_C N c (12 * i + n))) (20 * i + nt_lv N n) (ds_on (rw_C N c (12 * i + n)) (20 * i + nt_lv N n) + ds_tm c (10 * (12 * i + n))) q = _
    by_cases z : 0 < ds_tm c (10 * (12 * i + n))
    · obtain ⟨h1, h2⟩ := hl z
      obtain ⟨l1, l2, l3⟩ := nt_lvE h2
      by_cases e : q = 20 * i + nt_lv N n
      · subst e
        rw [un_s, rw_on, rw_on, show (20 * i + nt_lv N n) % 20 = nt_lv N n from by omega, show (20 * i + nt_lv N n) / 20 = i from by omega, l2, if_neg (by omega), if_pos ⟨⟨l1, rfl⟩, by omega⟩]
        omega
      · rw [un_n e, rw_on, rw_on]
        congr 1
        by_cases r : (q % 20 < nt_f N ∧ nt_lv N (nt_fr N (q % 20)) = q % 20) ∧ 12 * (q / 20) + nt_fr N (q % 20) < 12 * i + n
        · rw [if_pos r, if_pos ⟨r.1, by omega⟩]
        · rw [if_neg r]
          refine (if_neg (fun w => ?_)).symm
          have hf := (W.2.2.1 (q % 20) w.1.1).1
          have e1 : 12 * (q / 20) + nt_fr N (q % 20) = 12 * i + n := by
            have := w.2
            have : ¬ 12 * (q / 20) + nt_fr N (q % 20) < 12 * i + n := fun y => r ⟨w.1, y⟩
            omega
          have e2 : nt_fr N (q % 20) = n := by omega
          have e3 := w.1.2
          rw [e2] at e3
          omega
    · have z0 : ds_tm c (10 * (12 * i + n)) = 0 := by omega
      rw [z0, Nat.add_zero, un_id, rw_on, rw_on]
      congr 1
      by_cases r : (q % 20 < nt_f N ∧ nt_lv N (nt_fr N (q % 20)) = q % 20) ∧ 12 * (q / 20) + nt_fr N (q % 20) < 12 * i + n
      · rw [if_pos r, if_pos ⟨r.1, by omega⟩]
      · rw [if_neg r]
        by_cases w : (q % 20 < nt_f N ∧ nt_lv N (nt_fr N (q % 20)) = q % 20) ∧ 12 * (q / 20) + nt_fr N (q % 20) < 12 * i + n + 1
        · have e1 : 12 * (q / 20) + nt_fr N (q % 20) = 12 * i + n := by
            have := w.2
            have : ¬ 12 * (q / 20) + nt_fr N (q % 20) < 12 * i + n := fun y => r ⟨w.1, y⟩
            omega
          rw [if_pos w, e1, z0]
        · rw [if_neg w]
  · show un_U (ds_in (rw_C N c (12 * i + n))) (12 * i + n) (ds_in (rw_C N c (12 * i + n)) (12 * i + n) - ds_tm c (10 * (12 * i + n))) k = _
    by_cases e : k = 12 * i + n
    · subst e
      rw [un_s, rw_in, rw_in, if_neg (by omega), if_pos (by omega)]
    · rw [un_n e, rw_in, rw_in]
      by_cases r : k < 12 * i + n
      · rw [if_pos r, if_pos (by omega)]
      · rw [if_neg r, if_neg (by omega)]
  · show un_U (ds_tm (rw_C N c (12 * i + n))) (10 * (12 * i + n)) (ds_tm (rw_C N c (12 * i + n)) (10 * (12 * i + n)) - ds_tm c (10 * (12 * i + n))) q = _
    by_cases e : q = 10 * (12 * i + n)
    · subst e
      rw [un_s, rw_tm, rw_tm, if_neg (by omega), if_pos (by omega), Nat.sub_self]
    · rw [un_n e, rw_tm, rw_tm]
      by_cases r : q % 10 = 0 ∧ q / 10 < 12 * i + n
      · rw [if_pos r, if_pos (by omega)]
      · rw [if_neg r, if_neg (by omega)]
theorem xl_t48 {post : Int32 → SX → Prop} {J24 : Int32 → Int32 → Int32 → Int32 → Int32 → Int32 → Int32 → Int32 → (Nat → Int32) → (Nat → Int32) → (Nat → Int32) → (Nat → Int32) → (Nat → Int32) → (Nat → Int32) → (Nat → Int32) → (Nat → Int32) → (Nat → Int32) → (Nat → Int32) → (Nat → Int32) → (Nat → Int32) → (Nat → Int32) → (Nat → Int32) → (Nat → Int32) → (Nat → Int32) → (Nat → Int32) → (Nat → Int32) → (Nat → Int32) → (Nat → Int32) → (Nat → Int32) → (Nat → Int32) → (Nat → Int32) → Prop}
    {N D : NT} {c j : DS} {s e p : Nat} {x1 : Int32} (W : nt_W N) (hp : p = ds_ck c % 10) (hl : ∀ i n, i < 3 → n < 12 → 0 < ds_tm c (10 * (12 * i + n)) → n < nt_n N ∧ ∃ f, f < nt_f N ∧ nt_fr N f = n) (hin : ∀ k, k < 36 → ds_tm c (10 * k) ≤ ds_in c k) (hb : ∀ k, k < 36 → ds_in c k < 2 ^ 31)
    (K : ∀ {f_dNodes f_dFlows f_nodes f_flows f_clock f_acts : Int32} {a_dKind a_dNumber a_dFrom a_dTo a_dWhen a_kind a_number a_from a_to a_when a_comes a_leaves a_reached a_onFlow a_inNode a_ring a_variable a_marked a_holding a_ables a_known a_stored a_journal : Nat → Int32}, xx_R N D (rw_C N c 36) j (f_dNodes, f_dFlows, f_nodes, f_flows, f_clock, f_acts, a_dKind, a_dNumber, a_dFrom, a_dTo, a_dWhen, a_kind, a_number, a_from, a_to, a_when, a_comes, a_leaves, a_reached, a_onFlow, a_inNode, a_ring, a_variable, a_marked, a_holding, a_ables, a_known, a_stored, a_journal) → J24 (nI (s + sm_N (fun k => ds_tm c (10 * k)) 36)) (nI (e + 1)) f_dNodes f_dFlows f_nodes f_flows f_clock f_acts a_dKind a_dNumber a_dFrom a_dTo a_dWhen a_kind a_number a_from a_to a_when a_comes a_leaves a_reached a_onFlow a_inNode a_ring a_variable a_marked a_holding a_ables a_known a_stored a_journal) :
    ∀ d k {f_dNodes f_dFlows f_nodes f_flows f_clock f_acts : Int32} {a_dKind a_dNumber a_dFrom a_dTo a_dWhen a_kind a_number a_from a_to a_when a_comes a_leaves a_reached a_onFlow a_inNode a_ring a_variable a_marked a_holding a_ables a_known a_stored a_journal : Nat → Int32}, k + d = 36 → xx_R N D (rw_C N c k) j (f_dNodes, f_dFlows, f_nodes, f_flows, f_clock, f_acts, a_dKind, a_dNumber, a_dFrom, a_dTo, a_dWhen, a_kind, a_number, a_from, a_to, a_when, a_comes, a_leaves, a_reached, a_onFlow, a_inNode, a_ring, a_variable, a_marked, a_holding, a_ables, a_known, a_stored, a_journal) → wX_tick_48 post J24 x1 (nI e) (d + 1) (nI (s + sm_N (fun k => ds_tm c (10 * k)) k)) (nI (10 * k + p)) f_dNodes f_dFlows f_nodes f_flows f_clock f_acts a_dKind a_dNumber a_dFrom a_dTo a_dWhen a_kind a_number a_from a_to a_when a_comes a_leaves a_reached a_onFlow a_inNode a_ring a_variable a_marked a_holding a_ables a_known a_stored a_journal := by
  have n120 : ¬ (120 : Int32) = 0 := by decide
  intro d
  induction d with
  | zero =>
    intro k f_dNodes f_dFlows f_nodes f_flows f_clock f_acts a_dKind a_dNumber a_dFrom a_dTo a_dWhen a_kind a_number a_from a_to a_when a_comes a_leaves a_reached a_onFlow a_inNode a_ring a_variable a_marked a_holding a_ables a_known a_stored a_journal hd R
    have : k = 36 := by omega
    subst this
    rw [wX_tick_48]
    exact br_t (nI_le (a := 360) (by omega) (by omega)) (nm_r (nI_1 e) (K R))
  | succ d ih =>
    intro k f_dNodes f_dFlows f_nodes f_flows f_clock f_acts a_dKind a_dNumber a_dFrom a_dTo a_dWhen a_kind a_number a_from a_to a_when a_comes a_leaves a_reached a_onFlow a_inNode a_ring a_variable a_marked a_holding a_ables a_known a_stored a_journal hd R
    have d120 : (nI (10 * k + p) / 120 : Int32) = nI (k / 12) := by
      have := pk_div (a := 10 * k + p) (d := 120) (by omega) (by omega) (by omega)
      rw [show (10 * k + p) / 120 = k / 12 from by omega] at this
      exact this
    have r120 : ((nI (10 * k + p) - nI (10 * k + p) / 120 * 120) / 10 : Int32) = nI (k % 12) := by
      have a : (nI (10 * k + p) - nI (10 * k + p) / 120 * 120 : Int32) = nI ((10 * k + p) % 120) := pk_rem (d := 120) (by omega) (by omega) (by omega)
      rw [a]
      have := pk_div (a := (10 * k + p) % 120) (d := 10) (by omega) (by omega) (by omega)
      rw [show (10 * k + p) % 120 / 10 = k % 12 from by omega] at this
      exact this
    have ek : 12 * (k / 12) + k % 12 = k := by omega
    have et : ds_tm (rw_C N c k) (10 * k) = ds_tm c (10 * k) := if_neg (by omega)
    have ei : ds_in (rw_C N c k) k = ds_in c k := if_neg (by omega)
    have hlk := hl (k / 12) (k % 12) (by omega) (by omega)
    have hs := rw_s (N := N) (c := c) (i := k / 12) (n := k % 12) W.1 (by omega) (by omega) hlk
    rw [ek] at hs hlk
    rw [wX_tick_48]
    refine br_f (nI_ge (b := 360) (by omega) (by omega)) (And.intro n120 (nm_r d120 (And.intro n120 (And.intro ix_100 (nm_r r120 ⟨ds_tm c (10 * k) + 1, ?_⟩)))))
    have e1 : s + sm_N (fun k => ds_tm c (10 * k)) k + ds_tm c (10 * k) = s + sm_N (fun k => ds_tm c (10 * k)) (k + 1) := Nat.add_assoc _ _ _
    have e2 : 10 * k + p + 10 = 10 * (k + 1) + p := by omega
    exact xl_t73 (post := post) (J24 := J24) (J48 := wX_tick_48 post J24 x1 (nI e) (d + 1)) (N := N) (D := D) (c := rw_C N c k) (j := j) (i := k / 12) (n := k % 12) (s := s + sm_N (fun k => ds_tm c (10 * k)) k) (m := ds_tm c (10 * k)) (r := 10 * k + p) (x1 := x1) (x3 := nI e) W (by omega) (by omega) (by rw [ek, et]) (fun z => hlk z) (by rw [ek, ei]; exact hin k (by omega)) (by rw [ek, ei]; exact hb k (by omega)) (by rw [ek, hp]; rfl)
      (fun R' => by rw [e1, e2]; exact ih (k + 1) (by omega) (xx_RE W.1 hs R')) (ds_tm c (10 * k)) 0 (by omega) (by rw [due_0]; exact R)
theorem rw_tk {N : NT} {B : Nat} {c : DS} (I : ic_C N B c) : ds_E (rw_C N (dc_clk c) 36) (tk_C N 1 c 36) ∧ sm_N (fun k => ds_tm (dc_clk c) (10 * k)) 36 = tk_G c 1 := by
  have z : ∀ k, k < 36 → ds_tm c (10 * k) = 0 := fun k hk => by
    by_cases e : 0 < ds_tm c (10 * k)
    · have := I.2.2.2.1 (k / 12) (k % 12) 0 (by omega) (by omega) (by omega)
      rw [show 10 * (12 * (k / 12) + k % 12) + 0 = 10 * k from by omega] at this
      have := (this e).2.2
      omega
    · omega
  have t1 : ∀ k, ds_tm (dc_clk c) (10 * k) = ds_tm c (10 * k + 1) := fun k => dc_clkt (k := k) (t := 0) (by omega)
  have du : ∀ k, k < 36 → ds_tm (dc_clk c) (10 * k) = tk_du c 1 k := fun k hk => by
    rw [t1]
    show _ = 0 + ds_tm c (10 * k) + ds_tm c (10 * k + 1) + 0 + 0 + 0 + 0 + 0 + 0 + 0 + 0
    rw [z k hk]
    omega
  refine ⟨⟨fun q hq => ?_, fun k hk => ?_, fun q hq => ?_, fun k _ => rfl, fun k _ => rfl, rfl, rfl⟩, sm_eq 36 (fun k hk => du k hk)⟩
  · rw [rw_on, tk_on]
    show ds_on c q + _ = _
    congr 1
    by_cases e : (q % 20 < nt_f N ∧ nt_lv N (nt_fr N (q % 20)) = q % 20) ∧ 12 * (q / 20) + nt_fr N (q % 20) < 36
    · rw [if_pos e, if_pos e, du _ e.2]
    · rw [if_neg e, if_neg e]
  · rw [rw_in, tk_in, if_pos hk, if_pos hk, du k hk]
    rfl
  · obtain ⟨k, t, ht, rfl⟩ : ∃ k t, t < 10 ∧ q = 10 * k + t := ⟨q / 10, q % 10, by omega, by omega⟩
    rw [tk_tm36 (by omega) ht, rw_tm]
    by_cases e : t = 0
    · subst e
      rw [if_pos (by omega), if_neg (by omega)]
    · rw [if_neg (by omega), dc_clkt ht]
      by_cases r : t + 1 ≤ 9
      · rw [if_pos (by omega), show (t + 1) % 10 = t + 1 from by omega]
        rfl
      · rw [if_neg (by omega), show (t + 1) % 10 = 0 from by omega]
        exact z k (by omega)
theorem xl_t24 {post : Int32 → SX → Prop} {N D : NT} {B d : Nat} {c j : DS} (W : nt_W N) (I : ic_C N B c) (hB : B + d < 2 ^ 30) (h : ∀ u', xx_R N D (tk_C N d c 36) j u' → post (nI (tk_G c d)) u') :
    ∀ g e {f_dNodes f_dFlows f_nodes f_flows f_clock f_acts : Int32} {a_dKind a_dNumber a_dFrom a_dTo a_dWhen a_kind a_number a_from a_to a_when a_comes a_leaves a_reached a_onFlow a_inNode a_ring a_variable a_marked a_holding a_ables a_known a_stored a_journal : Nat → Int32}, e + g = d → xx_R N D (tk_C N e c 36) j (f_dNodes, f_dFlows, f_nodes, f_flows, f_clock, f_acts, a_dKind, a_dNumber, a_dFrom, a_dTo, a_dWhen, a_kind, a_number, a_from, a_to, a_when, a_comes, a_leaves, a_reached, a_onFlow, a_inNode, a_ring, a_variable, a_marked, a_holding, a_ables, a_known, a_stored, a_journal) → wX_tick_24 post (nI d) (g + 1) (nI (tk_G c e)) (nI e) f_dNodes f_dFlows f_nodes f_flows f_clock f_acts a_dKind a_dNumber a_dFrom a_dTo a_dWhen a_kind a_number a_from a_to a_when a_comes a_leaves a_reached a_onFlow a_inNode a_ring a_variable a_marked a_holding a_ables a_known a_stored a_journal := by
  have W12 := W.1.1
  intro g
  induction g with
  | zero =>
    intro e f_dNodes f_dFlows f_nodes f_flows f_clock f_acts a_dKind a_dNumber a_dFrom a_dTo a_dWhen a_kind a_number a_from a_to a_when a_comes a_leaves a_reached a_onFlow a_inNode a_ring a_variable a_marked a_holding a_ables a_known a_stored a_journal hd R
    have : e = d := by omega
    subst this
    rw [wX_tick_24]
    exact br_t (nI_le (Nat.le_refl _) (by omega)) (h _ R)
  | succ g ih =>
    intro e f_dNodes f_dFlows f_nodes f_flows f_clock f_acts a_dKind a_dNumber a_dFrom a_dTo a_dWhen a_kind a_number a_from a_to a_when a_comes a_leaves a_reached a_onFlow a_inNode a_ring a_variable a_marked a_holding a_ables a_known a_stored a_journal hd R
    have I1 := ic_tkd W I e
    have G1 := tk_G1 (N := N) (c := c) (d := e)
    have CP := tk_comp (N := N) (c := c) (d := e) W.1
    generalize hce : tk_C N e c 36 = ce at R I1 G1 CP
    obtain ⟨rwE, rwG⟩ := rw_tk (N := N) I1
    obtain ⟨RD, RN, RS, RM, RJ⟩ := R
    have ck := I1.2.2.2.2.2.2.1
    have ec : f_clock + 1 = nI (ds_ck ce + 1) := by rw [RS.2.2.2.2.2.1, nI_1]
    have rm : (nI (ds_ck ce + 1) - nI (ds_ck ce + 1) / 10 * 10 : Int32) = nI ((ds_ck ce + 1) % 10) := pk_rem (d := 10) (by omega) (by omega) (by omega)
    rw [wX_tick_24]
    refine br_f (nI_ge (by omega) (by omega)) (nm_r ec (And.intro ix_100 (nm_r (e' := nI (10 * 0 + (ds_ck ce + 1) % 10)) (by rw [rm, Nat.mul_zero, Nat.zero_add]) ⟨37, ?_⟩)))
    have R1 : xx_R N D (dc_clk ce) j (f_dNodes, f_dFlows, f_nodes, f_flows, nI (ds_ck ce + 1), f_acts, a_dKind, a_dNumber, a_dFrom, a_dTo, a_dWhen, a_kind, a_number, a_from, a_to, a_when, a_comes, a_leaves, a_reached, a_onFlow, a_inNode, a_ring, a_variable, a_marked, a_holding, a_ables, a_known, a_stored, a_journal) := by
      refine ⟨RD, RN, ⟨RS.1, RS.2.1, fun k t hk ht => ?_, RS.2.2.2.1, RS.2.2.2.2.1, rfl, RS.2.2.2.2.2.2⟩, RM, RJ⟩
      rw [dc_clkt ht]
      show a_ring (10 * k + (ds_ck ce + 1 + t) % 10) = _
      rw [show (ds_ck ce + 1 + t) % 10 = (ds_ck ce + (t + 1) % 10) % 10 from by omega]
      exact RS.2.2.1 k ((t + 1) % 10) hk (by omega)
    have t1 : ∀ k, ds_tm (dc_clk ce) (10 * k) = ds_tm ce (10 * k + 1) := fun k => dc_clkt (k := k) (t := 0) (by omega)
    refine xl_t48 (s := tk_G c e) (p := (ds_ck ce + 1) % 10) W rfl (fun i n hi hn z => ?_) (fun k hk => ?_) (fun k hk => ?_) (fun R' => ?_) 36 0 (by omega) (xx_RE W.1 rw_0 R1)
    · rw [t1] at z
      have := I1.2.2.2.1 i n 1 hi hn (by omega) z
      exact ⟨this.1, W.2.2.1 n this.1 (by omega) (by omega)⟩
    · rw [t1]
      show _ ≤ ds_in ce k
      have a := sm_at (g := fun t => ds_tm ce (10 * k + t)) 10 1 (by omega)
      have b := ic_sml I1 (i := k / 12) (n := k % 12) (by omega) (by omega)
      rw [show 12 * (k / 12) + k % 12 = k from by omega] at b
      exact Nat.le_trans a b
    · show ds_in ce k < _
      have b := ic_in W I1 (i := k / 12) (n := k % 12) (by omega) (by omega)
      rw [show 12 * (k / 12) + k % 12 = k from by omega] at b
      omega
    · rw [rwG, G1]
      exact ih (e + 1) (by omega) (xx_RE W.1 CP (xx_RE W.1 rwE R'))
end
section
/-! Y: tick -/
def pt_F (A : Nat → Nat) (d t s : Nat) : Nat := if s < t then (if 1 ≤ s ∧ s + d < t then A (s + d) else 0) else A s
theorem pt_0 {A : Nat → Nat} {d s : Nat} : pt_F A d 0 s = A s := if_neg (by omega)
theorem pt_s {A : Nat → Nat} {d t s : Nat} (hd : 1 ≤ d) (h1 : s ≠ t) (h2 : s + d ≠ t ∨ s = 0) : pt_F A d (t + 1) s = pt_F A d t s := by
  unfold pt_F
  by_cases e : s < t
  · rw [if_pos e, if_pos (by omega)]
    by_cases r : 1 ≤ s ∧ s + d < t
    · rw [if_pos r, if_pos (by omega)]
    · rw [if_neg r, if_neg (by omega)]
  · rw [if_neg e, if_neg (by omega)]
theorem pt_t {A : Nat → Nat} {d t : Nat} (hd : 1 ≤ d) : pt_F A d (t + 1) t = 0 := by
  unfold pt_F
  rw [if_pos (by omega), if_neg (by omega)]
theorem pt_d {A : Nat → Nat} {d t : Nat} (hd : 1 ≤ d) (h : d < t) : pt_F A d (t + 1) (t - d) = A t := by
  unfold pt_F
  rw [if_pos (by omega), if_pos (by omega), show t - d + d = t from by omega]
theorem tk_tmK {N : NT} {d k t K : Nat} {c : DS} (ht : t < 10) : ds_tm (tk_C N d c K) (10 * k + t) = if k < K then (if 1 ≤ t ∧ t + d ≤ 9 then ds_tm c (10 * k + t + d) else 0) else ds_tm c (10 * k + t) := by
  rw [tk_tm, show (10 * k + t) / 10 = k from by omega, show (10 * k + t) % 10 = t from by omega]
theorem tk_smK {N : NT} {d k K : Nat} {c : DS} (hk : k < 36) : ds_sm (tk_C N d c K) k = if k < K then ds_sm (tk_C N d c 36) k else ds_sm c k := by
  by_cases e : k < K
  · rw [if_pos e]
    exact sm_eq 10 (fun t ht => by rw [tk_tmK ht, tk_tmK ht, if_pos e, if_pos hk])
  · rw [if_neg e]
    exact sm_eq 10 (fun t ht => by rw [tk_tmK ht, if_neg e])
/-- row k has been shifted, its due tokens are not yet on their flow -/
def tm_C (N : NT) (d : Nat) (c : DS) (k : Nat) : DS := (ds_on (tk_C N d c k), ds_in (tk_C N d c (k + 1)), ds_tm (tk_C N d c (k + 1)), ds_va c, ds_st c, ds_ck c + d, ds_ac c)
theorem tm_s {N : NT} {c : DS} {d i n : Nat} (W : nt_D N) (hi : i < 3) (hn : n < 12) (hl : n < nt_n N ∧ ∃ f, f < nt_f N ∧ nt_fr N f = n) : ds_E (dc_putm (tm_C N d c (12 * i + n)) i (nt_lv N n) (tk_du c d (12 * i + n))) (tk_C N d c (12 * i + n + 1)) := by
  have W12 := W.1
  have W20 := W.2.1
  refine ⟨fun q hq => ?_, fun k hk => rfl, fun q hq => rfl, fun k _ => rfl, fun k _ => rfl, rfl, rfl⟩
  show un_U (ds_on (tk_C N d c (12 * i + n))) (20 * i + nt_lv N n) (ds_on (tk_C N d c (12 * i + n)) (20 * i + nt_lv N n) + tk_du c d (12 * i + n)) q = _
  obtain ⟨h1, h2⟩ := hl
  obtain ⟨l1, l2, l3⟩ := nt_lvE h2
  by_cases e : q = 20 * i + nt_lv N n
  · subst e
    rw [un_s, tk_on, tk_on, show (20 * i + nt_lv N n) % 20 = nt_lv N n from by omega, show (20 * i + nt_lv N n) / 20 = i from by omega, l2, if_neg (by omega), if_pos ⟨⟨l1, rfl⟩, by omega⟩]
    omega
  · rw [un_n e, tk_on, tk_on]
    congr 1
    by_cases r : (q % 20 < nt_f N ∧ nt_lv N (nt_fr N (q % 20)) = q % 20) ∧ 12 * (q / 20) + nt_fr N (q % 20) < 12 * i + n
    · rw [if_pos r, if_pos ⟨r.1, by omega⟩]
    · rw [if_neg r]
      refine (if_neg (fun w => ?_)).symm
      have hf := (W.2.2.1 (q % 20) w.1.1).1
      have e1 : 12 * (q / 20) + nt_fr N (q % 20) = 12 * i + n := by
        have := w.2
        have : ¬ 12 * (q / 20) + nt_fr N (q % 20) < 12 * i + n := fun y => r ⟨w.1, y⟩
        omega
      have e2 : nt_fr N (q % 20) = n := by omega
      have e3 := w.1.2
      rw [e2] at e3
      omega
theorem tm_z {N : NT} {c : DS} {d k : Nat} (z0 : tk_du c d k = 0) : ds_E (tm_C N d c k) (tk_C N d c (k + 1)) := by
  refine ⟨fun q hq => ?_, fun k hk => rfl, fun q hq => rfl, fun k _ => rfl, fun k _ => rfl, rfl, rfl⟩
  show ds_on (tk_C N d c k) q = _
  rw [tk_on, tk_on]
  congr 1
  by_cases r : (q % 20 < nt_f N ∧ nt_lv N (nt_fr N (q % 20)) = q % 20) ∧ 12 * (q / 20) + nt_fr N (q % 20) < k
  · rw [if_pos r, if_pos ⟨r.1, by omega⟩]
  · rw [if_neg r]
    by_cases w : (q % 20 < nt_f N ∧ nt_lv N (nt_fr N (q % 20)) = q % 20) ∧ 12 * (q / 20) + nt_fr N (q % 20) < k + 1
    · have e1 : 12 * (q / 20) + nt_fr N (q % 20) = k := by
        have := w.2
        have : ¬ 12 * (q / 20) + nt_fr N (q % 20) < k := fun y => r ⟨w.1, y⟩
        omega
      rw [if_pos w, e1, z0]
    · rw [if_neg w]
theorem yl_t52 {post : Int32 → SY → Prop} {J : Int32 → Int32 → (Nat → Int32) → (Nat → Int32) → (Nat → Int32) → (Nat → Int32) → (Nat → Int32) → (Nat → Int32) → (Nat → Int32) → (Nat → Int32) → (Nat → Int32) → (Nat → Int32) → (Nat → Int32) → (Nat → Int32) → (Nat → Int32) → (Nat → Int32) → (Nat → Int32) → Prop}
    {N D : NT} {B d k s : Nat} {c j : DS} {b_kind b_number b_from b_to b_cond b_nodes b_flows b_variables b_on b_in b_times b_stored b_clock b_acts b_reached : Nat → Int32} (W : nt_W N) (I : ic_C N B c) (hB : B < 2 ^ 31) (hd : 1 ≤ d) (hd2 : d < 21) (hk : k < 36) (R : yy_R N D (tk_C N d c k) j (b_kind, b_number, b_from, b_to, b_cond, b_nodes, b_flows, b_variables, b_on, b_in, b_times, b_stored, b_clock, b_acts, b_reached))
    (K : ∀ {b_kind b_number b_from b_to b_cond b_nodes b_flows b_variables b_on b_in b_times b_stored b_clock b_acts b_reached : Nat → Int32}, yy_R N D (tk_C N d c (k + 1)) j (b_kind, b_number, b_from, b_to, b_cond, b_nodes, b_flows, b_variables, b_on, b_in, b_times, b_stored, b_clock, b_acts, b_reached) → J (nI (s + tk_du c d k)) (nI (k + 1)) b_kind b_number b_from b_to b_cond b_nodes b_flows b_variables b_on b_in b_times b_stored b_clock b_acts b_reached) :
    ∀ g t a, t + g = 10 → (∀ q, q / 10 ≠ k → a q = b_times q) → (∀ s, s < 10 → a (10 * k + s) = nI (pt_F (fun s => ds_tm c (10 * k + s)) d t s)) → wY_tick_52 post J (nI d) (nI s) (nI k) (g + 1) (nI (sm_N (fun t => if t ≤ d then ds_tm c (10 * k + t) else 0) t)) (nI t) b_kind b_number b_from b_to b_cond b_nodes b_flows b_variables b_on b_in a b_stored b_clock b_acts b_reached := by
  have W12 := W.1.1
  have ek : 12 * (k / 12) + k % 12 = k := by omega
  have dub : tk_du c d k ≤ B := by
    have b := ic_in W I (i := k / 12) (n := k % 12) (by omega) (by omega)
    have b2 := ic_sml I (i := k / 12) (n := k % 12) (by omega) (by omega)
    rw [ek] at b b2
    exact Nat.le_trans tk_dul (Nat.le_trans b2 b)
  intro g
  induction g with
  | zero =>
    intro t a hg h1 h2
    have : t = 10 := by omega
    subst this
    have Rm : yy_R N D (tm_C N d c k) j (b_kind, b_number, b_from, b_to, b_cond, b_nodes, b_flows, b_variables, b_on, b_in, a, b_stored, b_clock, b_acts, b_reached) := by
      obtain ⟨RD, RN, RS, RJ⟩ := R
      refine ⟨RD, RN, ⟨RS.1, fun k' hk' => ?_, fun q hq => ?_, RS.2.2.2⟩, yy_tm RJ (fun q hq => h1 _ (by omega))⟩
      · rw [RS.2.1 k' hk']
        refine congrArg nI ?_
        show ds_in (tk_C N d c k) k' - ds_sm (tk_C N d c k) k' = ds_in (tk_C N d c (k + 1)) k' - ds_sm (tk_C N d c (k + 1)) k'
        rw [tk_smK (K := k) hk', tk_smK (K := k + 1) hk', tk_in, tk_in]
        by_cases e : k' = k
        · subst e
          rw [if_neg (Nat.lt_irrefl _), if_neg (Nat.lt_irrefl _), if_pos (Nat.lt_succ_self _), if_pos (Nat.lt_succ_self _)]
          have := tk_sm (N := N) (c := c) W.1 hk' d
          omega
        · by_cases r : k' < k
          · rw [if_pos r, if_pos r, if_pos (by omega), if_pos (by omega)]
          · rw [if_neg r, if_neg r, if_neg (by omega), if_neg (by omega)]
      · show a q = nI (ds_tm (tk_C N d c (k + 1)) q)
        obtain ⟨k', t, ht, rfl⟩ : ∃ k t, t < 10 ∧ q = 10 * k + t := ⟨q / 10, q % 10, by omega, by omega⟩
        by_cases e : k' = k
        · subst e
          rw [h2 t ht, tk_tmK ht, if_pos (Nat.lt_succ_self _)]
          unfold pt_F
          rw [if_pos ht]
          by_cases r : 1 ≤ t ∧ t + d < 10
          · rw [if_pos r, if_pos (by omega), Nat.add_assoc]
          · rw [if_neg r, if_neg (by omega)]
        · rw [h1 _ (by omega), RS.2.2.1 _ hq, tk_tmK ht, tk_tmK ht]
          by_cases r : k' < k
          · rw [if_pos r, if_pos (show k' < k + 1 by omega)]
          · rw [if_neg r, if_neg (show ¬ k' < k + 1 by omega)]
    have d12 : (nI k / 12 : Int32) = nI (k / 12) := pk_div (d := 12) (by omega) (by omega) (by omega)
    have r12 : (nI k - nI k / 12 * 12 : Int32) = nI (k % 12) := pk_rem (d := 12) (by omega) (by omega) (by omega)
    rw [wY_tick_52]
    refine br_t (nI_le (Nat.le_refl _) (by omega)) (pk_le (tk_du c d k) 0 (fun q => nm_r (nI_add s _) (nm_r (nI_1 k) (K (yy_RE (tm_z (by omega)) Rm)))) (fun q => And.intro ix_120 (And.intro ix_120 ?_)) rfl rfl)
    rw [r12, d12]
    have hp : ∃ t, t < 10 ∧ 0 < ds_tm c (10 * k + t) := by
      refine Classical.byContradiction (fun z => ?_)
      have : tk_du c d k = 0 := sm_0 10 (fun t ht => by
        by_cases e : t ≤ d
        · rw [if_pos e]
          by_cases w : 0 < ds_tm c (10 * k + t)
          · exact absurd ⟨t, ht, w⟩ z
          · omega
        · exact if_neg e)
      omega
    obtain ⟨t, ht, w⟩ := hp
    have kk := I.2.2.2.1 (k / 12) (k % 12) t (by omega) (by omega) ht
    rw [ek] at kk
    have kn := (kk w).1
    have k6 := (kk w).2.1
    clear kk
    have hl := W.2.2.1 (k % 12) kn (by omega) (by omega)
    have E := tm_s (N := N) (c := c) (d := d) (i := k / 12) (n := k % 12) W.1 (by omega) (by omega) ⟨kn, hl⟩
    rw [ek] at E
    exact yl_pass (m := tk_du c d k) W.1 Rm (by omega) (by omega) hl rfl (yy_all (fun b_kind b_number b_from b_to b_cond b_nodes b_flows b_variables b_on b_in b_times b_stored b_clock b_acts b_reached R => nm_r (nI_add s _) (nm_r (nI_1 k) (K (yy_RE E R)))))
  | succ g ih =>
    intro t a hg h1 h2
    have ex : (10 * nI k + nI t : Int32) = nI (10 * k + t) := ix_m 10 k t
    have v : vp_in (10 * nI k + nI t) 720 := by rw [ex]; exact vp_in_nI (by omega) (by omega)
    have kx : (10 * nI k + nI t).toNatClampNeg = 10 * k + t := by rw [ex]; exact nI_clamp (by omega)
    have at0 : a (10 * k + t) = nI (ds_tm c (10 * k + t)) := by
      rw [h2 t (by omega)]
      unfold pt_F
      rw [if_neg (Nat.lt_irrefl _)]
    rw [wY_tick_52]
    refine br_f (nI_ge (b := 10) (by omega) (by omega)) (And.intro v (nm_r (e' := nI (ds_tm c (10 * k + t))) (by rw [kx]; exact at0) (And.intro v (nm_r (e' := upd a (10 * k + t) 0) (by rw [kx]) ?_))))
    refine pk_lt d t (fun q => ?_) (fun q => nm_r (e' := nI (sm_N (fun t => if t ≤ d then ds_tm c (10 * k + t) else 0) (t + 1))) ?_ (nm_r (nI_1 t) (ih (t + 1) _ (by omega) (fun p hp => ?_) (fun s hs => ?_))))
    · have ey : (10 * nI k + nI t - nI d : Int32) = nI (10 * k + t - d) := by rw [ex]; exact pk_sub (by omega)
      have e0 : sm_N (fun t => if t ≤ d then ds_tm c (10 * k + t) else 0) t = sm_N (fun t => if t ≤ d then ds_tm c (10 * k + t) else 0) (t + 1) := by
        show _ = sm_N (fun t => if t ≤ d then ds_tm c (10 * k + t) else 0) t + (if t ≤ d then ds_tm c (10 * k + t) else 0)
        rw [if_neg (by omega)]
        rfl
      rw [e0]
      refine And.intro (by rw [ey]; exact vp_in_nI (by omega) (by omega)) (nm_r (e' := upd (upd a (10 * k + t) 0) (10 * k + t - d) (nI (ds_tm c (10 * k + t)))) (by rw [ey, nI_clamp (by omega)]) (nm_r (nI_1 t) (ih (t + 1) _ (by omega) (fun p hp => ?_) (fun s hs => ?_))))
      · rw [pk_un (by omega), pk_un (by omega)]; exact h1 p hp
      · by_cases e1 : s = t - d
        · subst e1
          rw [show 10 * k + t - d = 10 * k + (t - d) from by omega, pk_us, pt_d hd q]
        · rw [pk_un (by omega)]
          by_cases e2 : s = t
          · subst e2
            rw [pk_us, pt_t hd]
            rfl
          · rw [pk_un (by omega), pt_s hd e2 (by omega)]
            exact h2 s hs
    · rw [nI_add]
      refine congrArg nI ?_
      show _ = sm_N (fun t => if t ≤ d then ds_tm c (10 * k + t) else 0) t + (if t ≤ d then ds_tm c (10 * k + t) else 0)
      rw [if_pos q]
    · rw [pk_un (by omega)]; exact h1 p hp
    · by_cases e2 : s = t
      · subst e2
        rw [pk_us, pt_t hd]
        rfl
      · rw [pk_un (by omega), pt_s hd e2 (by omega)]
        exact h2 s hs
theorem yl_t36 {post : Int32 → SY → Prop} {N D : NT} {B d : Nat} {c j : DS} (W : nt_W N) (I : ic_C N B c) (hB : B < 2 ^ 31) (hd : 1 ≤ d) (hd2 : d < 21) (h : ∀ v', yy_R N D (tk_C N d c 36) j v' → post (nI (tk_G c d)) v') :
    ∀ g k {b_kind b_number b_from b_to b_cond b_nodes b_flows b_variables b_on b_in b_times b_stored b_clock b_acts b_reached : Nat → Int32}, k + g = 36 → yy_R N D (tk_C N d c k) j (b_kind, b_number, b_from, b_to, b_cond, b_nodes, b_flows, b_variables, b_on, b_in, b_times, b_stored, b_clock, b_acts, b_reached) → wY_tick_36 post (nI d) (g + 1) (nI (sm_N (fun k => tk_du c d k) k)) (nI k) b_kind b_number b_from b_to b_cond b_nodes b_flows b_variables b_on b_in b_times b_stored b_clock b_acts b_reached := by
  intro g
  induction g with
  | zero =>
    intro k b_kind b_number b_from b_to b_cond b_nodes b_flows b_variables b_on b_in b_times b_stored b_clock b_acts b_reached hg R
    have : k = 36 := by omega
    subst this
    rw [wY_tick_36]
    exact br_t (nI_le (Nat.le_refl _) (by omega)) (h _ R)
  | succ g ih =>
    intro k b_kind b_number b_from b_to b_cond b_nodes b_flows b_variables b_on b_in b_times b_stored b_clock b_acts b_reached hg R
    rw [wY_tick_36]
    refine br_f (nI_ge (b := 36) (by omega) (by omega)) (br_f (nI_nle (by omega) (by omega)) ⟨11, ?_⟩)
    refine yl_t52 W I hB hd hd2 (by omega) R (fun R' => ih (k + 1) (by omega) R') 10 0 b_times (by omega) (fun q _ => rfl) (fun s hs => ?_)
    rw [pt_0, R.2.2.1.2.2.1 _ (by omega), tk_tmK hs, if_neg (Nat.lt_irrefl _)]
end
section
/-! X: reach -/
theorem nt_Pc {N : NT} {g f e : Nat} (hf : f < nt_f N) (hg : nt_to N f ≠ g) (p : nt_P N g (nt_to N f) e) : nt_P N g (nt_fr N f) e :=
  p (nt_P N g (nt_fr N f)) (fun e he h => nt_P1 hf (nt_P0 hf rfl) hg he h) (fun e he h1 h2 e' he' h3 => nt_P1 he h1 h2 he' h3)
theorem sm_mono {f g : Nat → Nat} : ∀ n, (∀ k, k < n → f k ≤ g k) → sm_N f n ≤ sm_N g n := by
  intro n
  induction n with
  | zero => intro _; exact Nat.le_refl _
  | succ n ih =>
    intro h
    show sm_N f n + f n ≤ sm_N g n + g n
    have := ih (fun k hk => h k (by omega))
    have := h n (by omega)
    omega
theorem sm_strict {f g : Nat → Nat} {a : Nat} : ∀ n, (∀ k, k < n → f k ≤ g k) → a < n → f a < g a → sm_N f n < sm_N g n := by
  intro n
  induction n with
  | zero => intro _ h; omega
  | succ n ih =>
    intro h ha hs
    show sm_N f n + f n < sm_N g n + g n
    by_cases e : a = n
    · subst e
      have := sm_mono (f := f) (g := g) a (fun k hk => h k (by omega))
      omega
    · have := ih (fun k hk => h k (by omega)) (by omega) hs
      have := h n (by omega)
      omega
/-- the bits of an OR's table that are still 0 -/
def re_mu (g : Nat) (r : Nat → Int32) : Nat := sm_N (fun q => if bt (r (32 * g + q / 32)) (q % 32) = true then 0 else 1) 1024
theorem re_lt {g : Nat} {r r' : Nat → Int32} {w b : Nat} (hw : w < 32) (hb : b < 32) (h : ∀ w b, w < 32 → b < 32 → bt (r (32 * g + w)) b = true → bt (r' (32 * g + w)) b = true) (h0 : ¬ bt (r (32 * g + w)) b = true) (h1 : bt (r' (32 * g + w)) b = true) : re_mu g r' < re_mu g r := by
  refine sm_strict (a := 32 * w + b) 1024 (fun k hk => ?_) (by omega) ?_
  · by_cases e : bt (r (32 * g + k / 32)) (k % 32) = true
    · rw [if_pos e, if_pos (h _ _ (by omega) (by omega) e)]; exact Nat.le_refl _
    · rw [if_neg e]
      by_cases e2 : bt (r' (32 * g + k / 32)) (k % 32) = true
      · rw [if_pos e2]; exact Nat.zero_le _
      · rw [if_neg e2]; exact Nat.le_refl _
  · rw [show (32 * w + b) / 32 = w from by omega, show (32 * w + b) % 32 = b from by omega, if_pos h1, if_neg h0]
    exact Nat.zero_lt_one
/-- the flows that flow f hands on -/
def re_Z (N : NT) (g : Nat) (r : Nat → Int32) (f b : Nat) : Prop := (nt_to N f = g ∧ b = f) ∨ (nt_to N f ≠ g ∧ bt (r (32 * g + 20 + nt_to N f)) b = true)
def re_cl (N : NT) (g : Nat) (r : Nat → Int32) (f : Nat) : Prop := ∀ b, b < 32 → re_Z N g r f b → bt (r (32 * g + f)) b = true ∧ bt (r (32 * g + 20 + nt_fr N f)) b = true
def re_Sd (N : NT) (g : Nat) (r : Nat → Int32) : Prop :=
  (∀ m, m < nt_n N → ∀ b, b < 32 → bt (r (32 * g + 20 + m)) b = true → b < nt_f N ∧ nt_to N b = g ∧ nt_P N g m b) ∧
  (∀ f, f < nt_f N → nt_to N f ≠ g → ∀ b, b < 32 → bt (r (32 * g + f)) b = true → b < nt_f N ∧ nt_to N b = g ∧ nt_P N g (nt_to N f) b)
theorem re_T {N : NT} {g : Nat} {r : Nat → Int32} (W : nt_D N) (hS : re_Sd N g r) (hc : ∀ f, f < nt_f N → re_cl N g r f) : xx_T N g r := by
  have W20 := W.2.1
  have A : ∀ m, m < nt_n N → ∀ b, b < 32 → (b < nt_f N ∧ nt_to N b = g ∧ nt_P N g m b) → bt (r (32 * g + 20 + m)) b = true := by
    rintro m hm b hb ⟨q1, q2, p⟩
    have := p (fun f => f < nt_f N → ∀ b, b < 32 → re_Z N g r f b → bt (r (32 * g + 20 + m)) b = true) (fun f hf e _ b hb z => ?_) (fun f hf a ne e he h _ b hb z => ?_)
    · exact this q1 b hb (Or.inl ⟨q2, rfl⟩)
    · have := (hc f hf b hb z).2
      rw [e] at this
      exact this
    · have := (hc e he b hb z).2
      rw [h] at this
      exact a hf b hb (Or.inr ⟨ne, this⟩)
  refine ⟨fun m hm b hb => ⟨hS.1 m hm b hb, A m hm b hb⟩, fun f hf ne b hb => ⟨hS.2 f hf ne b hb, fun q => ?_⟩⟩
  exact (hc f hf b hb (Or.inr ⟨ne, A _ (W.2.2.1 f hf).2 b hb q⟩)).1
theorem xl_re103 {post : SX → Prop} {J28 : Int32 → (Nat → Int32) → (Nat → Int32) → (Nat → Int32) → (Nat → Int32) → (Nat → Int32) → (Nat → Int32) → (Nat → Int32) → (Nat → Int32) → (Nat → Int32) → (Nat → Int32) → (Nat → Int32) → (Nat → Int32) → (Nat → Int32) → (Nat → Int32) → (Nat → Int32) → (Nat → Int32) → (Nat → Int32) → (Nat → Int32) → (Nat → Int32) → (Nat → Int32) → (Nat → Int32) → (Nat → Int32) → (Nat → Int32) → Prop}
    {J36 : Int32 → Int32 → (Nat → Int32) → (Nat → Int32) → (Nat → Int32) → (Nat → Int32) → (Nat → Int32) → (Nat → Int32) → (Nat → Int32) → (Nat → Int32) → (Nat → Int32) → (Nat → Int32) → (Nat → Int32) → (Nat → Int32) → (Nat → Int32) → (Nat → Int32) → (Nat → Int32) → (Nat → Int32) → (Nat → Int32) → (Nat → Int32) → (Nat → Int32) → (Nat → Int32) → (Nat → Int32) → (Nat → Int32) → (Nat → Int32) → Prop}
    {x1 x2 z : Int32} {x y f : Nat} {Z : Nat → Prop} {f_dNodes f_dFlows f_nodes f_flows f_clock f_acts : Int32} {a_dKind a_dNumber a_dFrom a_dTo a_dWhen a_kind a_number a_from a_to a_when a_comes a_leaves a_reached a_onFlow a_inNode a_ring a_variable a_marked a_holding a_ables a_known a_stored a_journal : Nat → Int32} (hz : bm_S z Z) (hx : x < 384) (hy : y < 384) (hn : x ≠ y)
    (h0 : (∀ b, b < 32 → Z b → bt (a_reached x) b = true ∧ bt (a_reached y) b = true) → J36 x2 (nI (f + 1)) a_dKind a_dNumber a_dFrom a_dTo a_dWhen a_kind a_number a_from a_to a_when a_comes a_leaves a_reached a_onFlow a_inNode a_ring a_variable a_marked a_holding a_ables a_known a_stored a_journal)
    (h1 : (∃ b, b < 32 ∧ Z b ∧ (¬ bt (a_reached x) b = true ∨ ¬ bt (a_reached y) b = true)) → J36 1 (nI (f + 1)) a_dKind a_dNumber a_dFrom a_dTo a_dWhen a_kind a_number a_from a_to a_when a_comes a_leaves (upd (upd a_reached x (a_reached x ||| z)) y (a_reached y ||| z)) a_onFlow a_inNode a_ring a_variable a_marked a_holding a_ables a_known a_stored a_journal) :
    wX_reach_103 post J28 J36 x1 x2 (nI f) (nI x) (nI y) z f_dNodes f_dFlows f_nodes f_flows f_clock f_acts a_dKind a_dNumber a_dFrom a_dTo a_dWhen a_kind a_number a_from a_to a_when a_comes a_leaves a_reached a_onFlow a_inNode a_ring a_variable a_marked a_holding a_ables a_known a_stored a_journal := by
  have vx : vp_in (nI x) 384 := vp_in_nI hx (by omega)
  have vy : vp_in (nI y) 384 := vp_in_nI hy (by omega)
  have kx : (nI x).toNatClampNeg = x := nI_clamp (by omega)
  have ky : (nI y).toNatClampNeg = y := nI_clamp (by omega)
  have bx : bm_S (a_reached x) (fun b => bt (a_reached x) b = true) := fun b _ => Iff.rfl
  have by' : bm_S (a_reached y) (fun b => bt (a_reached y) b = true) := fun b _ => Iff.rfl
  have Q := bm_or (bm_and hz (bm_not bx)) (bm_and hz (bm_not by'))
  refine And.intro vx (And.intro vy ?_)
  rw [kx, ky]
  refine br_c (fun e => nm_r (nI_1 f) (h0 (fun b hb q => ?_))) (fun e => And.intro vx (And.intro vx (nm_e (And.intro vy (And.intro vy (nm_r (e' := upd (upd a_reached x (a_reached x ||| z)) y (a_reached y ||| z)) ?_ (nm_r (nI_1 f) (h1 ?_))))))))
  · have := (bm_eq0 Q).mp e b hb
    refine ⟨Classical.byContradiction (fun w => this (Or.inl ⟨q, w⟩)), Classical.byContradiction (fun w => this (Or.inr ⟨q, w⟩))⟩
  · rw [pk_un (Ne.symm hn)]
  · obtain ⟨b, hb, q⟩ := (bm_ne0 Q).mp e
    rcases q with q | q
    · exact ⟨b, hb, q.1, Or.inl q.2⟩
    · exact ⟨b, hb, q.1, Or.inr q.2⟩
theorem re_up {N : NT} {g f : Nat} {r : Nat → Int32} {z : Int32} (W : nt_D N) (hg : g < nt_n N) (hf : f < nt_f N) (hz : bm_S z (re_Z N g r f)) (hS : re_Sd N g r) :
    re_Sd N g (upd (upd r (32 * g + f) (r (32 * g + f) ||| z)) (32 * g + 20 + nt_fr N f) (r (32 * g + 20 + nt_fr N f) ||| z)) := by
  have W12 := W.1
  have W20 := W.2.1
  have hff := W.2.2.1 f hf
  have P1 : ∀ b, b < 32 → re_Z N g r f b → b < nt_f N ∧ nt_to N b = g ∧ nt_P N g (nt_fr N f) b := by
    rintro b hb (⟨q1, q2⟩ | ⟨q1, q2⟩)
    · subst q2; exact ⟨hf, q1, nt_P0 hf rfl⟩
    · have := hS.1 _ hff.2 b hb q2
      exact ⟨this.1, this.2.1, nt_Pc hf q1 this.2.2⟩
  refine ⟨fun m hm b hb q => ?_, fun e he ne b hb q => ?_⟩
  · by_cases q1 : m = nt_fr N f
    · subst q1
      rw [pk_us, b_or, Bool.or_eq_true, hz b hb] at q
      rcases q with q | q
      · exact hS.1 _ hm b hb q
      · exact P1 b hb q
    · rw [pk_un (by omega), pk_un (by omega)] at q
      exact hS.1 m hm b hb q
  · rw [pk_un (by omega)] at q
    by_cases q1 : e = f
    · subst q1
      rw [pk_us, b_or, Bool.or_eq_true, hz b hb] at q
      rcases q with q | q
      · exact hS.2 _ he ne b hb q
      · rcases q with q | q
        · exact absurd q.1 ne
        · exact hS.1 _ hff.2 b hb q.2
    · rw [pk_un (by omega)] at q
      exact hS.2 e he ne b hb q
theorem re_dn {N : NT} {g f : Nat} {r : Nat → Int32} {z : Int32} (W : nt_D N) (hg : g < nt_n N) (hf : f < nt_f N) (hz : bm_S z (re_Z N g r f)) (h : ∃ b, b < 32 ∧ re_Z N g r f b ∧ (¬ bt (r (32 * g + f)) b = true ∨ ¬ bt (r (32 * g + 20 + nt_fr N f)) b = true)) :
    re_mu g (upd (upd r (32 * g + f) (r (32 * g + f) ||| z)) (32 * g + 20 + nt_fr N f) (r (32 * g + 20 + nt_fr N f) ||| z)) < re_mu g r := by
  have W12 := W.1
  have W20 := W.2.1
  have hff := (W.2.2.1 f hf).1
  have M : ∀ w b, w < 32 → b < 32 → bt (r (32 * g + w)) b = true → bt (upd (upd r (32 * g + f) (r (32 * g + f) ||| z)) (32 * g + 20 + nt_fr N f) (r (32 * g + 20 + nt_fr N f) ||| z) (32 * g + w)) b = true := by
    intro w b hw hb q
    by_cases q1 : 32 * g + w = 32 * g + 20 + nt_fr N f
    · rw [q1] at q ⊢
      rw [pk_us, b_or, Bool.or_eq_true]
      exact Or.inl q
    · rw [pk_un q1]
      by_cases q2 : 32 * g + w = 32 * g + f
      · rw [q2] at q ⊢
        rw [pk_us, b_or, Bool.or_eq_true]
        exact Or.inl q
      · rw [pk_un q2]; exact q
  obtain ⟨b, hb, zb, q⟩ := h
  have zt := (hz b hb).mpr zb
  rcases q with q | q
  · refine re_lt (w := f) (b := b) (by omega) hb M q ?_
    rw [pk_un (by omega), pk_us, b_or, Bool.or_eq_true]
    exact Or.inr zt
  · refine re_lt (w := 20 + nt_fr N f) (b := b) (by omega) hb M (by rw [← Nat.add_assoc]; exact q) ?_
    rw [← Nat.add_assoc, pk_us, b_or, Bool.or_eq_true]
    exact Or.inr zt
def re_K (g : Nat) (r0 r : Nat → Int32) : Prop := ∀ q, q < 32 * g ∨ 32 * g + 32 ≤ q → r q = r0 q
theorem xl_re36 {post : SX → Prop} {J28 : Int32 → (Nat → Int32) → (Nat → Int32) → (Nat → Int32) → (Nat → Int32) → (Nat → Int32) → (Nat → Int32) → (Nat → Int32) → (Nat → Int32) → (Nat → Int32) → (Nat → Int32) → (Nat → Int32) → (Nat → Int32) → (Nat → Int32) → (Nat → Int32) → (Nat → Int32) → (Nat → Int32) → (Nat → Int32) → (Nat → Int32) → (Nat → Int32) → (Nat → Int32) → (Nat → Int32) → (Nat → Int32) → (Nat → Int32) → Prop}
    {N : NT} {g : Nat} {r0 r1 : Nat → Int32} {f_dNodes f_dFlows f_nodes f_flows f_clock f_acts : Int32} {a_dKind a_dNumber a_dFrom a_dTo a_dWhen a_kind a_number a_from a_to a_when a_comes a_leaves a_onFlow a_inNode a_ring a_variable a_marked a_holding a_ables a_known a_stored a_journal : Nat → Int32} (W : nt_D N) (RN : xx_D N f_nodes f_flows a_kind a_number a_from a_to a_when) (hg : g < nt_n N)
    (h0 : (∀ f, f < nt_f N → re_cl N g r1 f) → J28 0 a_dKind a_dNumber a_dFrom a_dTo a_dWhen a_kind a_number a_from a_to a_when a_comes a_leaves r1 a_onFlow a_inNode a_ring a_variable a_marked a_holding a_ables a_known a_stored a_journal)
    (h1 : ∀ r, re_K g r0 r → re_Sd N g r → re_mu g r < re_mu g r1 → J28 1 a_dKind a_dNumber a_dFrom a_dTo a_dWhen a_kind a_number a_from a_to a_when a_comes a_leaves r a_onFlow a_inNode a_ring a_variable a_marked a_holding a_ables a_known a_stored a_journal) :
    ∀ d f x r, f + d = nt_f N → re_K g r0 r → re_Sd N g r → ((x = 0 ∧ r = r1 ∧ ∀ f', f' < f → re_cl N g r1 f') ∨ (x = 1 ∧ re_mu g r < re_mu g r1)) → wX_reach_36 post J28 (nI g) f_dNodes f_dFlows f_nodes f_flows f_clock f_acts (d + 1) x (nI f) a_dKind a_dNumber a_dFrom a_dTo a_dWhen a_kind a_number a_from a_to a_when a_comes a_leaves r a_onFlow a_inNode a_ring a_variable a_marked a_holding a_ables a_known a_stored a_journal := by
  have W12 := W.1
  have W20 := W.2.1
  intro d
  induction d with
  | zero =>
    intro f x r hd hk hS hx
    rw [wX_reach_36]
    refine br_t (by rw [RN.2.1]; exact nI_le (by omega) (by omega)) ?_
    rcases hx with ⟨rfl, rfl, hc⟩ | ⟨rfl, hm⟩
    · exact h0 (fun f' h => hc f' (by omega))
    · exact h1 r hk hS hm
  | succ d ih =>
    intro f x r hd hk hS hx
    have hff := W.2.2.1 f (by omega)
    have vf : vp_in (nI f) 20 := vp_in_nI (by omega) (by omega)
    have kf : (nI f).toNatClampNeg = f := nI_clamp (by omega)
    have ef : a_from (nI f).toNatClampNeg = nI (nt_fr N f) := by rw [kf]; exact RN.2.2.2.2.1 f (by omega)
    have et : a_to (nI f).toNatClampNeg = nI (nt_to N f) := by rw [kf]; exact RN.2.2.2.2.2.1 f (by omega)
    have e4 : (32 * nI g + nI f : Int32) = nI (32 * g + f) := ix_m 32 g f
    have e20 : (32 * nI g + 20 : Int32) = nI (32 * g + 20) := ix_m 32 g 20
    have e5 : (32 * nI g + 20 + a_from (nI f).toNatClampNeg : Int32) = nI (32 * g + 20 + nt_fr N f) := by rw [ef, e20, nI_add]
    have e6 : (32 * nI g + 20 + a_to (nI f).toNatClampNeg : Int32) = nI (32 * g + 20 + nt_to N f) := by rw [et, e20, nI_add]
    have F : ∀ z, bm_S z (re_Z N g r f) → wX_reach_103 post J28 (wX_reach_36 post J28 (nI g) f_dNodes f_dFlows f_nodes f_flows f_clock f_acts (d + 1)) (nI g) x (nI f) (nI (32 * g + f)) (nI (32 * g + 20 + nt_fr N f)) z f_dNodes f_dFlows f_nodes f_flows f_clock f_acts a_dKind a_dNumber a_dFrom a_dTo a_dWhen a_kind a_number a_from a_to a_when a_comes a_leaves r a_onFlow a_inNode a_ring a_variable a_marked a_holding a_ables a_known a_stored a_journal := by
      intro z hz
      refine xl_re103 hz (by omega) (by omega) (by omega) (fun q => ih (f + 1) x r (by omega) hk hS ?_) (fun q => ih (f + 1) 1 _ (by omega) (fun p hp => ?_) (re_up W hg (by omega) hz hS) (Or.inr ⟨rfl, ?_⟩))
      · rcases hx with ⟨a1, a2, a3⟩ | a
        · refine Or.inl ⟨a1, a2, fun f' h => ?_⟩
          by_cases e : f' = f
          · subst e; rw [← a2]; exact q
          · exact a3 f' (by omega)
        · exact Or.inr a
      · rw [pk_un (by omega), pk_un (by omega)]; exact hk p hp
      · have := re_dn W hg (by omega) hz q
        rcases hx with ⟨_, a2, _⟩ | a
        · rw [← a2]; exact this
        · exact Nat.lt_trans this a.2
    rw [wX_reach_36]
    refine br_f (by rw [RN.2.1]; exact nI_ge (by omega) (by omega)) (nm_r e4 (And.intro vf (nm_r e5 (And.intro vf (pk_eq (nt_to N f) g (fun e => F _ (bm_imp (bm_sing (by omega)) (fun b _ => ?_))) (fun e => And.intro vf (And.intro (by rw [e6]; exact vp_in_nI (by omega) (by omega)) ?_)) et rfl)))))
    · exact ⟨fun q => Or.inl ⟨e, q⟩, fun q => q.elim (fun w => w.2) (fun w => absurd e w.1)⟩
    · rw [e6, nI_clamp (by omega)]
      exact F _ (fun b _ => ⟨fun q => Or.inr ⟨e, q⟩, fun q => q.elim (fun w => absurd w.1 e) (fun w => w.2)⟩)
theorem xl_re28 {post : SX → Prop} {N : NT} {g : Nat} {r0 : Nat → Int32} {f_dNodes f_dFlows f_nodes f_flows f_clock f_acts : Int32} {a_dKind a_dNumber a_dFrom a_dTo a_dWhen a_kind a_number a_from a_to a_when a_comes a_leaves a_onFlow a_inNode a_ring a_variable a_marked a_holding a_ables a_known a_stored a_journal : Nat → Int32} (W : nt_D N) (RN : xx_D N f_nodes f_flows a_kind a_number a_from a_to a_when) (hg : g < nt_n N)
    (h : ∀ r, re_K g r0 r → xx_T N g r → post (f_dNodes, f_dFlows, f_nodes, f_flows, f_clock, f_acts, a_dKind, a_dNumber, a_dFrom, a_dTo, a_dWhen, a_kind, a_number, a_from, a_to, a_when, a_comes, a_leaves, r, a_onFlow, a_inNode, a_ring, a_variable, a_marked, a_holding, a_ables, a_known, a_stored, a_journal)) :
    ∀ n r, re_K g r0 r → re_Sd N g r → re_mu g r + 2 ≤ n → wX_reach_28 post (nI g) f_dNodes f_dFlows f_nodes f_flows f_clock f_acts n 1 a_dKind a_dNumber a_dFrom a_dTo a_dWhen a_kind a_number a_from a_to a_when a_comes a_leaves r a_onFlow a_inNode a_ring a_variable a_marked a_holding a_ables a_known a_stored a_journal := by
  intro n
  induction n with
  | zero => intro r _ _ hn; omega
  | succ n ih =>
    intro r hk hS hn
    obtain ⟨m, rfl⟩ : ∃ m, n = m + 1 := ⟨n - 1, by omega⟩
    rw [wX_reach_28]
    refine br_f ix_10 ⟨nt_f N + 1, xl_re36 (r0 := r0) (r1 := r) W RN hg (fun q => ?_) (fun r' a b e => ih r' a b (by omega)) (nt_f N) 0 0 r (by omega) hk hS (Or.inl ⟨rfl, rfl, fun f' h => by omega⟩)⟩
    rw [wX_reach_28]
    exact br_t rfl (h r hk (re_T W hS q))
theorem xl_re2 {post : SX → Prop} {N : NT} {g : Nat} {f_dNodes f_dFlows f_nodes f_flows f_clock f_acts : Int32} {a_dKind a_dNumber a_dFrom a_dTo a_dWhen a_kind a_number a_from a_to a_when a_comes a_leaves a_reached a_onFlow a_inNode a_ring a_variable a_marked a_holding a_ables a_known a_stored a_journal : Nat → Int32} (W : nt_D N) (RN : xx_D N f_nodes f_flows a_kind a_number a_from a_to a_when) (hg : g < nt_n N)
    (h : ∀ r, re_K g a_reached r → xx_T N g r → post (f_dNodes, f_dFlows, f_nodes, f_flows, f_clock, f_acts, a_dKind, a_dNumber, a_dFrom, a_dTo, a_dWhen, a_kind, a_number, a_from, a_to, a_when, a_comes, a_leaves, r, a_onFlow, a_inNode, a_ring, a_variable, a_marked, a_holding, a_ables, a_known, a_stored, a_journal)) :
    ∀ d x a, x + d = 32 → a = zr_Z a_reached (32 * g) x → wX_reach_2 post (nI g) f_dNodes f_dFlows f_nodes f_flows f_clock f_acts (d + 1) (nI x) a_dKind a_dNumber a_dFrom a_dTo a_dWhen a_kind a_number a_from a_to a_when a_comes a_leaves a a_onFlow a_inNode a_ring a_variable a_marked a_holding a_ables a_known a_stored a_journal := by
  have W12 := W.1
  have W20 := W.2.1
  intro d
  induction d with
  | zero =>
    intro x a hx ea
    have : x = 32 := by omega
    subst this
    subst ea
    have z : ∀ w, w < 32 → zr_Z a_reached (32 * g) 32 (32 * g + w) = 0 := fun w hw => if_pos (by omega)
    rw [wX_reach_2]
    refine br_t (nI_le (Nat.le_refl _) (by omega)) ⟨_, xl_re28 (r0 := a_reached) W RN hg h _ _ (fun q hq => if_neg (by omega)) ⟨fun m hm b hb q => ?_, fun f hf ne b hb q => ?_⟩ (Nat.le_refl _)⟩
    · rw [Nat.add_assoc, z _ (by omega), b_0] at q; exact Bool.noConfusion q
    · rw [z _ (by omega), b_0] at q; exact Bool.noConfusion q
  | succ d ih =>
    intro x a hx ea
    subst ea
    have e : (32 * nI g + nI x : Int32) = nI (32 * g + x) := ix_m 32 g x
    rw [wX_reach_2]
    exact br_f (nI_ge (b := 32) (by omega) (by omega)) (And.intro (by rw [e]; exact vp_in_nI (by omega) (by omega)) (nm_r (e' := zr_Z a_reached (32 * g) (x + 1)) (by rw [e, nI_clamp (by omega)]; exact zr_s) (nm_r (nI_1 _) (ih (x + 1) _ (by omega) rfl))))
theorem xl_reach {post : SX → Prop} {N : NT} {g : Nat} {f_dNodes f_dFlows f_nodes f_flows f_clock f_acts : Int32} {a_dKind a_dNumber a_dFrom a_dTo a_dWhen a_kind a_number a_from a_to a_when a_comes a_leaves a_reached a_onFlow a_inNode a_ring a_variable a_marked a_holding a_ables a_known a_stored a_journal : Nat → Int32} (W : nt_D N) (RN : xx_D N f_nodes f_flows a_kind a_number a_from a_to a_when) (hg : g < nt_n N)
    (h : ∀ r, re_K g a_reached r → xx_T N g r → post (f_dNodes, f_dFlows, f_nodes, f_flows, f_clock, f_acts, a_dKind, a_dNumber, a_dFrom, a_dTo, a_dWhen, a_kind, a_number, a_from, a_to, a_when, a_comes, a_leaves, r, a_onFlow, a_inNode, a_ring, a_variable, a_marked, a_holding, a_ables, a_known, a_stored, a_journal)) : wpX_reach post (f_dNodes, f_dFlows, f_nodes, f_flows, f_clock, f_acts, a_dKind, a_dNumber, a_dFrom, a_dTo, a_dWhen, a_kind, a_number, a_from, a_to, a_when, a_comes, a_leaves, a_reached, a_onFlow, a_inNode, a_ring, a_variable, a_marked, a_holding, a_ables, a_known, a_stored, a_journal) (nI g) :=
  ⟨33, xl_re2 W RN hg h 32 0 a_reached (by omega) zr_0.symm⟩
end
section
/-! isSound, sound -/
def cn_N (g : Nat → Nat) (n m : Nat) : Nat := sm_N (fun f => if g f = n then 1 else 0) m
theorem cn_s {g : Nat → Nat} {n m : Nat} (h : g m = n) : cn_N g n (m + 1) = cn_N g n m + 1 := by
  show cn_N g n m + (if g m = n then 1 else 0) = _
  rw [if_pos h]
theorem cn_n {g : Nat → Nat} {n m : Nat} (h : ¬ g m = n) : cn_N g n (m + 1) = cn_N g n m := by
  show cn_N g n m + (if g m = n then 1 else 0) = _
  rw [if_neg h]
  rfl
theorem cn_le {g : Nat → Nat} {n : Nat} : ∀ m, cn_N g n m ≤ m := by
  intro m
  induction m with
  | zero => exact Nat.le_refl _
  | succ m ih =>
    by_cases e : g m = n
    · rw [cn_s e]; omega
    · rw [cn_n e]; omega
theorem cn_0 {g : Nat → Nat} {n : Nat} : ∀ m, cn_N g n m = 0 → ∀ f, f < m → ¬ g f = n := by
  intro m
  induction m with
  | zero => intro _ f hf; omega
  | succ m ih =>
    intro h f hf e
    by_cases q : f = m
    · subst q; rw [cn_s e] at h; omega
    · refine ih ?_ f (by omega) e
      by_cases e2 : g m = n
      · rw [cn_s e2] at h; omega
      · rw [cn_n e2] at h; exact h
theorem cn_p {g : Nat → Nat} {n : Nat} : ∀ m, cn_N g n m ≠ 0 → ∃ f, f < m ∧ g f = n := by
  intro m
  induction m with
  | zero => intro h; exact absurd rfl h
  | succ m ih =>
    intro h
    by_cases e : g m = n
    · exact ⟨m, by omega, e⟩
    · rw [cn_n e] at h
      obtain ⟨f, a, b⟩ := ih h
      exact ⟨f, by omega, b⟩
theorem cn_1 {g : Nat → Nat} {n : Nat} : ∀ m, cn_N g n m = 1 → ∃ s, s < m ∧ g s = n ∧ ∀ f, f < m → g f = n → f = s := by
  intro m
  induction m with
  | zero => intro h; exact absurd (show (0 : Nat) = 1 from h) (by decide)
  | succ m ih =>
    intro h
    by_cases e : g m = n
    · rw [cn_s e] at h
      have z := cn_0 m (show cn_N g n m = 0 by omega)
      refine ⟨m, by omega, e, fun f hf q => ?_⟩
      by_cases r : f = m
      · exact r
      · exact absurd q (z f (by omega))
    · rw [cn_n e] at h
      obtain ⟨s, a, b, d⟩ := ih h
      refine ⟨s, by omega, b, fun f hf q => ?_⟩
      by_cases r : f = m
      · subst r; exact absurd q e
      · exact d f (by omega) q
/-- a node of kind k with a flows that come and b that leave is sound -/
def sd_k (k a b : Nat) : Prop := ((k = 0 ∧ a = 0) ∨ (k ≠ 0 ∧ a ≠ 0)) ∧ (((k = 1 ∨ k = 10) ∧ b = 0) ∨ ((k = 3 ∨ k = 4 ∨ k = 5) ∧ b ≠ 0) ∨ (¬ (k = 1 ∨ k = 10 ∨ k = 3 ∨ k = 4 ∨ k = 5) ∧ b = 1))
def sd_n (D : NT) (n : Nat) : Prop := sd_k (nt_ki D n) (cn_N (nt_to D) n (nt_f D)) (cn_N (nt_fr D) n (nt_f D))
def sd_D (D : NT) : Prop := (∀ n, n < nt_n D → sd_n D n) ∧ cn_N (nt_ki D) 0 (nt_n D) = 1
theorem sd_W {D : NT} (W : nt_D D) (h : sd_D D) : nt_W D := by
  refine ⟨W, fun n hn hk f hf => ?_, fun n hn h1 h10 => ?_, fun _ => ?_⟩
  · have a := (h.1 n hn).1
    have : cn_N (nt_to D) n (nt_f D) = 0 := by rcases a with a | a <;> omega
    exact cn_0 _ this f hf
  · have a := (h.1 n hn).2
    refine cn_p _ (fun z => ?_)
    rcases a with a | a | a
    · omega
    · exact a.2 z
    · omega
  · exact cn_1 _ h.2
theorem xl_so79 {post : Int32 → Prop} {J : Int32 → Int32 → Prop} {x1 : Int32} {n k a b : Nat} {f_dNodes f_dFlows f_nodes f_flows f_clock f_acts : Int32} {a_dKind a_dNumber a_dFrom a_dTo a_dWhen a_kind a_number a_from a_to a_when a_comes a_leaves a_reached a_onFlow a_inNode a_ring a_variable a_marked a_holding a_ables a_known a_stored a_journal : Nat → Int32} (hk : k < 11) (ha : a < 2 ^ 31) (hb : b < 2 ^ 31) (h1 : sd_k k a b → J x1 (nI (n + 1))) (h0 : ¬ sd_k k a b → post 0) : wX_isSound_79 post J x1 (nI n) (nI a) (nI b) (nI k) f_dNodes f_dFlows f_nodes f_flows f_clock f_acts a_dKind a_dNumber a_dFrom a_dTo a_dWhen a_kind a_number a_from a_to a_when a_comes a_leaves a_reached a_onFlow a_inNode a_ring a_variable a_marked a_holding a_ables a_known a_stored a_journal := by
  have F : ∀ (e m : Int32), ((k = 1 ∨ k = 10) → e = 1) → (¬ (k = 1 ∨ k = 10) → e = 0) → ((k = 3 ∨ k = 4 ∨ k = 5) → m = 1) → (¬ (k = 3 ∨ k = 4 ∨ k = 5) → m = 0) → ((k = 0 ∧ a = 0) ∨ (k ≠ 0 ∧ a ≠ 0)) → wX_isSound_140 post J x1 (nI n) (nI b) e m f_dNodes f_dFlows f_nodes f_flows f_clock f_acts a_dKind a_dNumber a_dFrom a_dTo a_dWhen a_kind a_number a_from a_to a_when a_comes a_leaves a_reached a_onFlow a_inNode a_ring a_variable a_marked a_holding a_ables a_known a_stored a_journal := by
    intro e m e1 e0 m1 m0 hA
    unfold wX_isSound_140
    by_cases q : k = 1 ∨ k = 10
    · rw [e1 q]
      refine br_f ix_10 (pk_le b 0 (fun z => nm_r (nI_1 n) (h1 ⟨hA, Or.inl ⟨q, by omega⟩⟩)) (fun z => h0 (fun w => ?_)))
      rcases w.2 with w | w | w <;> omega
    · rw [e0 q]
      refine br_t rfl ?_
      by_cases r : k = 3 ∨ k = 4 ∨ k = 5
      · rw [m1 r]
        refine br_f ix_10 (pk_eq b 0 (fun z => h0 (fun w => ?_)) (fun z => nm_r (nI_1 n) (h1 ⟨hA, Or.inr (Or.inl ⟨r, z⟩)⟩)))
        rcases w.2 with w | w | w <;> omega
      · rw [m0 r]
        refine br_t rfl (pk_eq b 1 (fun z => nm_r (nI_1 n) (h1 ⟨hA, Or.inr (Or.inr ⟨by omega, z⟩)⟩)) (fun z => h0 (fun w => ?_)))
        rcases w.2 with w | w | w <;> omega
  have G : ((k = 0 ∧ a = 0) ∨ (k ≠ 0 ∧ a ≠ 0)) → wX_isSound_97 post J x1 (nI n) (nI b) (nI k) f_dNodes f_dFlows f_nodes f_flows f_clock f_acts a_dKind a_dNumber a_dFrom a_dTo a_dWhen a_kind a_number a_from a_to a_when a_comes a_leaves a_reached a_onFlow a_inNode a_ring a_variable a_marked a_holding a_ables a_known a_stored a_journal := by
    intro hA
    have H : ∀ e : Int32, ((k = 1 ∨ k = 10) → e = 1) → (¬ (k = 1 ∨ k = 10) → e = 0) → wX_isSound_115 post J x1 (nI n) (nI b) (nI k) e f_dNodes f_dFlows f_nodes f_flows f_clock f_acts a_dKind a_dNumber a_dFrom a_dTo a_dWhen a_kind a_number a_from a_to a_when a_comes a_leaves a_reached a_onFlow a_inNode a_ring a_variable a_marked a_holding a_ables a_known a_stored a_journal := fun e e1 e0 =>
      pk_eq k 3 (fun q => F e 1 e1 e0 (fun _ => rfl) (fun z => absurd (Or.inl q) z) hA) (fun q3 => pk_eq k 4 (fun q => F e 1 e1 e0 (fun _ => rfl) (fun z => absurd (Or.inr (Or.inl q)) z) hA) (fun q4 => pk_eq k 5 (fun q => F e 1 e1 e0 (fun _ => rfl) (fun z => absurd (Or.inr (Or.inr q)) z) hA) (fun q5 => F e 0 e1 e0 (fun z => by omega) (fun _ => rfl) hA)))
    exact pk_eq k 1 (fun q => H 1 (fun _ => rfl) (fun z => absurd (Or.inl q) z)) (fun q1 => pk_eq k 10 (fun q => H 1 (fun _ => rfl) (fun z => absurd (Or.inr q) z)) (fun q10 => H 0 (fun z => by omega) (fun _ => rfl)))
  refine pk_eq k 0 (fun q => pk_le a 0 (fun z => G (Or.inl ⟨q, by omega⟩)) (fun z => h0 (fun w => ?_))) (fun q => pk_eq a 0 (fun z => h0 (fun w => ?_)) (fun z => G (Or.inr ⟨q, z⟩)))
  · rcases w.1 with w | w <;> omega
  · rcases w.1 with w | w <;> omega
theorem xl_so28 {post : Int32 → Prop} {J : Int32 → Int32 → Prop} {D : NT} {n st : Nat} {f_dNodes f_dFlows f_nodes f_flows f_clock f_acts : Int32} {a_dKind a_dNumber a_dFrom a_dTo a_dWhen a_kind a_number a_from a_to a_when a_comes a_leaves a_reached a_onFlow a_inNode a_ring a_variable a_marked a_holding a_ables a_known a_stored a_journal : Nat → Int32} (W : nt_D D) (RD : xx_D D f_dNodes f_dFlows a_dKind a_dNumber a_dFrom a_dTo a_dWhen) (hn : n < nt_n D) (h1 : sd_n D n → J (nI (st + (if nt_ki D n = 0 then 1 else 0))) (nI (n + 1))) (h0 : ¬ sd_n D n → post 0) :
    ∀ d f, f + d = nt_f D → wX_isSound_28 post J (nI st) (nI n) (nI (nt_ki D n)) f_dNodes f_dFlows f_nodes f_flows f_clock f_acts a_dKind a_dNumber a_dFrom a_dTo a_dWhen a_kind a_number a_from a_to a_when a_comes a_leaves a_reached a_onFlow a_inNode a_ring a_variable a_marked a_holding a_ables a_known a_stored a_journal (d + 1) (nI (cn_N (nt_to D) n f)) (nI (cn_N (nt_fr D) n f)) (nI f) := by
  have W12 := W.1
  have W20 := W.2.1
  have hk := (W.2.2.2.1 n hn).1
  intro d
  induction d with
  | zero =>
    intro f hd
    have : f = nt_f D := by omega
    subst this
    have b1 := cn_le (g := nt_to D) (n := n) (nt_f D)
    have b2 := cn_le (g := nt_fr D) (n := n) (nt_f D)
    rw [wX_isSound_28]
    refine br_t (by rw [RD.2.1]; exact nI_le (Nat.le_refl _) (by omega)) (pk_eq (nt_ki D n) 0 (fun q => nm_r (nI_1 st) (xl_so79 hk (by omega) (by omega) (fun z => ?_) h0)) (fun q => xl_so79 hk (by omega) (by omega) (fun z => ?_) h0))
    · have := h1 z
      rw [if_pos q] at this
      exact this
    · have := h1 z
      rw [if_neg q] at this
      exact this
  | succ d ih =>
    intro f hd
    have hff := W.2.2.1 f (by omega)
    have vf : vp_in (nI f) 20 := vp_in_nI (by omega) (by omega)
    have kf : (nI f).toNatClampNeg = f := nI_clamp (by omega)
    have ef : a_dFrom (nI f).toNatClampNeg = nI (nt_fr D f) := by rw [kf]; exact RD.2.2.2.2.1 f (by omega)
    have et : a_dTo (nI f).toNatClampNeg = nI (nt_to D f) := by rw [kf]; exact RD.2.2.2.2.2.1 f (by omega)
    have IH := ih (f + 1) (by omega)
    have F : ∀ a, a = cn_N (nt_to D) n (f + 1) → wX_isSound_51 post J (wX_isSound_28 post J (nI st) (nI n) (nI (nt_ki D n)) f_dNodes f_dFlows f_nodes f_flows f_clock f_acts a_dKind a_dNumber a_dFrom a_dTo a_dWhen a_kind a_number a_from a_to a_when a_comes a_leaves a_reached a_onFlow a_inNode a_ring a_variable a_marked a_holding a_ables a_known a_stored a_journal (d + 1)) (nI st) (nI n) (nI a) (nI (cn_N (nt_fr D) n f)) (nI (nt_ki D n)) (nI f) f_dNodes f_dFlows f_nodes f_flows f_clock f_acts a_dKind a_dNumber a_dFrom a_dTo a_dWhen a_kind a_number a_from a_to a_when a_comes a_leaves a_reached a_onFlow a_inNode a_ring a_variable a_marked a_holding a_ables a_known a_stored a_journal := by
      intro a ea
      subst ea
      refine And.intro vf (pk_eq (nt_fr D f) n (fun q => nm_r (nI_1 _) (nm_r (nI_1 f) ?_)) (fun q => nm_r (nI_1 f) ?_) ef rfl)
      · rw [cn_s q] at IH; exact IH
      · rw [cn_n q] at IH; exact IH
    rw [wX_isSound_28]
    exact br_f (by rw [RD.2.1]; exact nI_ge (by omega) (by omega)) (And.intro vf (pk_eq (nt_to D f) n (fun q => nm_r (nI_1 _) (F _ (cn_s q).symm)) (fun q => F _ (cn_n q).symm) et rfl))
theorem xl_so4 {post : Int32 → Prop} {D : NT} {f_dNodes f_dFlows f_nodes f_flows f_clock f_acts : Int32} {a_dKind a_dNumber a_dFrom a_dTo a_dWhen a_kind a_number a_from a_to a_when a_comes a_leaves a_reached a_onFlow a_inNode a_ring a_variable a_marked a_holding a_ables a_known a_stored a_journal : Nat → Int32} (W : nt_D D) (RD : xx_D D f_dNodes f_dFlows a_dKind a_dNumber a_dFrom a_dTo a_dWhen) (h1 : sd_D D → post 1) (h0 : ¬ sd_D D → post 0) :
    ∀ d n, n + d = nt_n D → (∀ m, m < n → sd_n D m) → wX_isSound_4 post f_dNodes f_dFlows f_nodes f_flows f_clock f_acts a_dKind a_dNumber a_dFrom a_dTo a_dWhen a_kind a_number a_from a_to a_when a_comes a_leaves a_reached a_onFlow a_inNode a_ring a_variable a_marked a_holding a_ables a_known a_stored a_journal (d + 1) (nI (cn_N (nt_ki D) 0 n)) (nI n) := by
  have W12 := W.1
  intro d
  induction d with
  | zero =>
    intro n hd hl
    have : n = nt_n D := by omega
    subst this
    have b1 := cn_le (g := nt_ki D) (n := 0) (nt_n D)
    rw [wX_isSound_4]
    exact br_t (by rw [RD.1]; exact nI_le (Nat.le_refl _) (by omega)) (pk_eq (cn_N (nt_ki D) 0 (nt_n D)) 1 (fun q => h1 ⟨hl, q⟩) (fun q => h0 (fun w => q w.2)))
  | succ d ih =>
    intro n hd hl
    have kn : (nI n).toNatClampNeg = n := nI_clamp (by omega)
    rw [wX_isSound_4]
    refine br_f (by rw [RD.1]; exact nI_ge (by omega) (by omega)) (And.intro (vp_in_nI (by omega) (by omega)) (nm_r (e' := nI (nt_ki D n)) (by rw [kn]; exact RD.2.2.1 n (by omega)) ⟨nt_f D + 1, ?_⟩))
    refine xl_so28 W RD (by omega) (fun z => ih (n + 1) (by omega) (fun m hm => ?_)) (fun z => h0 (fun w => z (w.1 n (by omega)))) (nt_f D) 0 (by omega)
    by_cases e : m = n
    · subst e; exact z
    · exact hl m (by omega)
theorem xl_isSound {post : Int32 → Prop} {D : NT} {f_dNodes f_dFlows f_nodes f_flows f_clock f_acts : Int32} {a_dKind a_dNumber a_dFrom a_dTo a_dWhen a_kind a_number a_from a_to a_when a_comes a_leaves a_reached a_onFlow a_inNode a_ring a_variable a_marked a_holding a_ables a_known a_stored a_journal : Nat → Int32} (W : nt_D D) (RD : xx_D D f_dNodes f_dFlows a_dKind a_dNumber a_dFrom a_dTo a_dWhen) (h1 : sd_D D → post 1) (h0 : ¬ sd_D D → post 0) : wpX_isSound post (f_dNodes, f_dFlows, f_nodes, f_flows, f_clock, f_acts, a_dKind, a_dNumber, a_dFrom, a_dTo, a_dWhen, a_kind, a_number, a_from, a_to, a_when, a_comes, a_leaves, a_reached, a_onFlow, a_inNode, a_ring, a_variable, a_marked, a_holding, a_ables, a_known, a_stored, a_journal) :=
  ⟨nt_n D + 1, xl_so4 W RD h1 h0 (nt_n D) 0 (by omega) (fun m h => by omega)⟩
theorem yl_so116 {post : Int32 → Prop} {J : Int32 → Int32 → Prop} {x1 o : Int32} {n k a b : Nat} {b_kind b_number b_from b_to b_cond b_nodes b_flows b_variables b_on b_in b_times b_stored b_clock b_acts b_reached : Nat → Int32} (hk : k < 11) (ha : a < 2 ^ 31) (hb : b < 2 ^ 31) (ho1 : ¬ (k = 1 ∨ k = 10 ∨ k = 3 ∨ k = 4 ∨ k = 5) → o = 1) (ho0 : (k = 3 ∨ k = 4 ∨ k = 5) → o = 0) (h1 : sd_k k a b → J x1 (nI (n + 1))) (h0 : ¬ sd_k k a b → post 0) : wY_sound_116 post J x1 (nI n) (nI k) (nI a) (nI b) o b_kind b_number b_from b_to b_cond b_nodes b_flows b_variables b_on b_in b_times b_stored b_clock b_acts b_reached := by
  have F : ((k = 0 ∧ a = 0) ∨ (k ≠ 0 ∧ a ≠ 0)) → wY_sound_135 post J x1 (nI n) (nI k) (nI b) o b_kind b_number b_from b_to b_cond b_nodes b_flows b_variables b_on b_in b_times b_stored b_clock b_acts b_reached := by
    intro hA
    have E : (k = 1 ∨ k = 10) → wY_sound_146 post J x1 (nI n) (nI b) b_kind b_number b_from b_to b_cond b_nodes b_flows b_variables b_on b_in b_times b_stored b_clock b_acts b_reached := fun q => pk_le b 0 (fun z => nm_r (nI_1 n) (h1 ⟨hA, Or.inl ⟨q, by omega⟩⟩)) (fun z => h0 (fun w => by rcases w.2 with w | w | w <;> omega))
    refine pk_eq k 1 (fun q => E (Or.inl q)) (fun q1 => pk_eq k 10 (fun q => E (Or.inr q)) (fun q10 => pk_eq b 0 (fun z => h0 (fun w => by rcases w.2 with w | w | w <;> omega)) (fun z => ?_)))
    by_cases r : k = 3 ∨ k = 4 ∨ k = 5
    · rw [ho0 r]
      exact br_t rfl (nm_r (nI_1 n) (h1 ⟨hA, Or.inr (Or.inl ⟨r, z⟩)⟩))
    · rw [ho1 (by omega)]
      exact br_f ix_10 (pk_le b 1 (fun w => nm_r (nI_1 n) (h1 ⟨hA, Or.inr (Or.inr ⟨by omega, by omega⟩)⟩)) (fun w => h0 (fun w => by rcases w.2 with w | w | w <;> omega)))
  refine pk_eq k 0 (fun q => pk_le a 0 (fun z => F (Or.inl ⟨q, by omega⟩)) (fun z => h0 (fun w => ?_))) (fun q => pk_eq a 0 (fun z => h0 (fun w => ?_)) (fun z => F (Or.inr ⟨q, z⟩)))
  · rcases w.1 with w | w <;> omega
  · rcases w.1 with w | w <;> omega
theorem yl_so34 {post : Int32 → Prop} {J : Int32 → Int32 → Prop} {D : NT} {n st : Nat} {b_kind b_number b_from b_to b_cond b_nodes b_flows b_variables b_on b_in b_times b_stored b_clock b_acts b_reached : Nat → Int32} (W : nt_D D) (RD : xx_D D (b_nodes 1) (b_flows 1) (fun n => b_kind (12 + n)) (fun n => b_number (12 + n)) (fun f => b_from (20 + f)) (fun f => b_to (20 + f)) (fun f => b_cond (20 + f))) (hn : n < nt_n D) (h1 : sd_n D n → J (nI (st + (if nt_ki D n = 0 then 1 else 0))) (nI (n + 1))) (h0 : ¬ sd_n D n → post 0) :
    ∀ d f, f + d = nt_f D → wY_sound_34 post J (nI st) (nI n) (nI (nt_ki D n)) b_kind b_number b_from b_to b_cond b_nodes b_flows b_variables b_on b_in b_times b_stored b_clock b_acts b_reached (d + 1) (nI (cn_N (nt_to D) n f)) (nI (cn_N (nt_fr D) n f)) (nI (20 + f)) := by
  have W12 := W.1
  have W20 := W.2.1
  have hk := (W.2.2.2.1 n hn).1
  have e20 : (20 + b_flows 1 : Int32) = nI (20 + nt_f D) := by rw [RD.2.1]; exact nI_add 20 _
  intro d
  induction d with
  | zero =>
    intro f hd
    have : f = nt_f D := by omega
    subst this
    have b1 := cn_le (g := nt_to D) (n := n) (nt_f D)
    have b2 := cn_le (g := nt_fr D) (n := n) (nt_f D)
    have F : ∀ o : Int32, (¬ (nt_ki D n = 1 ∨ nt_ki D n = 10 ∨ nt_ki D n = 3 ∨ nt_ki D n = 4 ∨ nt_ki D n = 5) → o = 1) → ((nt_ki D n = 3 ∨ nt_ki D n = 4 ∨ nt_ki D n = 5) → o = 0) → wY_sound_107 post J (nI st) (nI n) (nI (nt_ki D n)) (nI (cn_N (nt_to D) n (nt_f D))) (nI (cn_N (nt_fr D) n (nt_f D))) o b_kind b_number b_from b_to b_cond b_nodes b_flows b_variables b_on b_in b_times b_stored b_clock b_acts b_reached := by
      intro o o1 o0
      refine pk_eq (nt_ki D n) 0 (fun q => nm_r (nI_1 st) (yl_so116 hk (by omega) (by omega) o1 o0 (fun z => ?_) h0)) (fun q => yl_so116 hk (by omega) (by omega) o1 o0 (fun z => ?_) h0)
      · have := h1 z
        rw [if_pos q] at this
        exact this
      · have := h1 z
        rw [if_neg q] at this
        exact this
    rw [wY_sound_34]
    exact br_t (by rw [e20]; exact nI_le (Nat.le_refl _) (by omega)) (pk_eq (nt_ki D n) 0 (fun q => F 1 (fun _ => rfl) (fun z => by omega)) (fun q0 => pk_eq (nt_ki D n) 2 (fun q => F 1 (fun _ => rfl) (fun z => by omega)) (fun q2 => pk_le (nt_ki D n) 5 (fun q => F 0 (fun z => by omega) (fun _ => rfl)) (fun q5 => pk_le 10 (nt_ki D n) (fun q => F 0 (fun z => by omega) (fun _ => rfl)) (fun q => F 1 (fun _ => rfl) (fun z => by omega))))))
  | succ d ih =>
    intro f hd
    have hff := W.2.2.1 f (by omega)
    have vf : vp_in (nI (20 + f)) 40 := vp_in_nI (by omega) (by omega)
    have kf : (nI (20 + f)).toNatClampNeg = 20 + f := nI_clamp (by omega)
    have ef : b_from (nI (20 + f)).toNatClampNeg = nI (nt_fr D f) := by rw [kf]; exact RD.2.2.2.2.1 f (by omega)
    have et : b_to (nI (20 + f)).toNatClampNeg = nI (nt_to D f) := by rw [kf]; exact RD.2.2.2.2.2.1 f (by omega)
    have IH := ih (f + 1) (by omega)
    have F : ∀ a, a = cn_N (nt_to D) n (f + 1) → wY_sound_62 post J (wY_sound_34 post J (nI st) (nI n) (nI (nt_ki D n)) b_kind b_number b_from b_to b_cond b_nodes b_flows b_variables b_on b_in b_times b_stored b_clock b_acts b_reached (d + 1)) (nI st) (nI n) (nI (nt_ki D n)) (nI a) (nI (cn_N (nt_fr D) n f)) (nI (20 + f)) b_kind b_number b_from b_to b_cond b_nodes b_flows b_variables b_on b_in b_times b_stored b_clock b_acts b_reached := by
      intro a ea
      subst ea
      refine And.intro vf (pk_eq (nt_fr D f) n (fun q => nm_r (nI_1 _) (nm_r (nI_1 (20 + f)) ?_)) (fun q => nm_r (nI_1 (20 + f)) ?_) ef rfl)
      · rw [cn_s q] at IH; exact IH
      · rw [cn_n q] at IH; exact IH
    rw [wY_sound_34]
    exact br_f (by rw [e20]; exact nI_ge (by omega) (by omega)) (And.intro vf (pk_eq (nt_to D f) n (fun q => nm_r (nI_1 _) (F _ (cn_s q).symm)) (fun q => F _ (cn_n q).symm) et rfl))
theorem yl_so4 {post : Int32 → Prop} {D : NT} {b_kind b_number b_from b_to b_cond b_nodes b_flows b_variables b_on b_in b_times b_stored b_clock b_acts b_reached : Nat → Int32} (W : nt_D D) (RD : xx_D D (b_nodes 1) (b_flows 1) (fun n => b_kind (12 + n)) (fun n => b_number (12 + n)) (fun f => b_from (20 + f)) (fun f => b_to (20 + f)) (fun f => b_cond (20 + f))) (h1 : sd_D D → post 1) (h0 : ¬ sd_D D → post 0) :
    ∀ d n, n + d = nt_n D → (∀ m, m < n → sd_n D m) → wY_sound_4 post b_kind b_number b_from b_to b_cond b_nodes b_flows b_variables b_on b_in b_times b_stored b_clock b_acts b_reached (d + 1) (nI (cn_N (nt_ki D) 0 n)) (nI n) := by
  have W12 := W.1
  intro d
  induction d with
  | zero =>
    intro n hd hl
    have : n = nt_n D := by omega
    subst this
    have b1 := cn_le (g := nt_ki D) (n := 0) (nt_n D)
    rw [wY_sound_4]
    exact br_t (by rw [RD.1]; exact nI_le (Nat.le_refl _) (by omega)) (pk_eq (cn_N (nt_ki D) 0 (nt_n D)) 1 (fun q => h1 ⟨hl, q⟩) (fun q => h0 (fun w => q w.2)))
  | succ d ih =>
    intro n hd hl
    have e12 : (12 + nI n : Int32) = nI (12 + n) := nI_add 12 n
    rw [wY_sound_4]
    refine br_f (by rw [RD.1]; exact nI_ge (by omega) (by omega)) (And.intro (by rw [e12]; exact vp_in_nI (by omega) (by omega)) (nm_r (e' := nI (nt_ki D n)) (by rw [e12, nI_clamp (by omega)]; exact RD.2.2.1 n (by omega)) ⟨nt_f D + 1, ?_⟩))
    refine yl_so34 W RD (by omega) (fun z => ih (n + 1) (by omega) (fun m hm => ?_)) (fun z => h0 (fun w => z (w.1 n (by omega)))) (nt_f D) 0 (by omega)
    by_cases e : m = n
    · subst e; exact z
    · exact hl m (by omega)
theorem yl_sound {post : Int32 → Prop} {D : NT} {b_kind b_number b_from b_to b_cond b_nodes b_flows b_variables b_on b_in b_times b_stored b_clock b_acts b_reached : Nat → Int32} (W : nt_D D) (RD : xx_D D (b_nodes 1) (b_flows 1) (fun n => b_kind (12 + n)) (fun n => b_number (12 + n)) (fun f => b_from (20 + f)) (fun f => b_to (20 + f)) (fun f => b_cond (20 + f))) (h1 : sd_D D → post 1) (h0 : ¬ sd_D D → post 0) : wpY_sound post (b_kind, b_number, b_from, b_to, b_cond, b_nodes, b_flows, b_variables, b_on, b_in, b_times, b_stored, b_clock, b_acts, b_reached) :=
  ⟨nt_n D + 1, yl_so4 W RD h1 h0 (nt_n D) 0 (by omega) (fun m h => by omega)⟩
end
section
/-! X: deploy -/
def ds_0 : DS := (fun _ => 0, fun _ => 0, fun _ => 0, fun _ => 0, fun _ => 0, 0, 0)
def nt_0 : NT := (0, 0, fun _ => 0, fun _ => 0, fun _ => 0, fun _ => 0, fun _ => 0)
theorem ix_bN : ∀ n, n < 128 → vp_nar .byte (nI n) = nI n := by
  intro n hn
  rw [vp_nar_byte]
  exact (by decide +kernel : ∀ n, n < 128 → (nI n).toInt8.toInt32 = nI n) n hn
theorem ix_bm1 : vp_nar .byte (-1) = -1 := by
  rw [vp_nar_byte]
  decide
theorem ix_bw {w : Int32} (h : w = -1 ∨ ∃ q, q < 90 ∧ w = nI q) : vp_nar .byte w = w := by
  rcases h with h | ⟨q, hq, h⟩
  · rw [h]; exact ix_bm1
  · rw [h]; exact ix_bN q (by omega)
theorem ix_D0 {a b c d e : Nat → Int32} : xx_D nt_0 0 0 a b c d e := ⟨rfl, rfl, fun n h => absurd h (Nat.not_lt_zero _), fun n h => absurd h (Nat.not_lt_zero _), fun n h => absurd h (Nat.not_lt_zero _), fun n h => absurd h (Nat.not_lt_zero _), fun n h => absurd h (Nat.not_lt_zero _)⟩
theorem xl_de246 {post : Int32 → SX → Prop} {J : Int32 → Int32 → Int32 → Int32 → Int32 → Int32 → Int32 → (Nat → Int32) → (Nat → Int32) → (Nat → Int32) → (Nat → Int32) → (Nat → Int32) → (Nat → Int32) → (Nat → Int32) → (Nat → Int32) → (Nat → Int32) → (Nat → Int32) → (Nat → Int32) → (Nat → Int32) → (Nat → Int32) → (Nat → Int32) → (Nat → Int32) → (Nat → Int32) → (Nat → Int32) → (Nat → Int32) → (Nat → Int32) → (Nat → Int32) → (Nat → Int32) → (Nat → Int32) → (Nat → Int32) → Prop}
    {i : Nat} {f_dNodes f_dFlows f_nodes f_flows f_clock f_acts : Int32} {a_dKind a_dNumber a_dFrom a_dTo a_dWhen a_kind a_number a_from a_to a_when a_comes a_leaves a_reached a_onFlow a_inNode a_ring a_variable a_marked a_holding a_ables a_known a_stored a_journal : Nat → Int32} (hi : i < 3) (K : J (nI (i + 1)) f_dNodes f_dFlows f_nodes f_flows f_clock f_acts a_dKind a_dNumber a_dFrom a_dTo a_dWhen a_kind a_number a_from a_to a_when a_comes a_leaves a_reached a_onFlow a_inNode a_ring (zr_Z a_variable (3 * i) 3) a_marked a_holding a_ables a_known (upd a_stored i 0) a_journal) :
    ∀ d x a, x + d = 3 → a = zr_Z a_variable (3 * i) x → wX_deploy_246 post J (nI i) f_dNodes f_dFlows f_nodes f_flows f_clock f_acts (d + 1) (nI x) a_dKind a_dNumber a_dFrom a_dTo a_dWhen a_kind a_number a_from a_to a_when a_comes a_leaves a_reached a_onFlow a_inNode a_ring a a_marked a_holding a_ables a_known a_stored a_journal := by
  have b0 : vp_nar .byte 0 = 0 := ix_bN 0 (by omega)
  intro d
  induction d with
  | zero =>
    intro x a hx ea
    have : x = 3 := by omega
    subst this
    subst ea
    rw [wX_deploy_246]
    exact br_t (nI_le (Nat.le_refl _) (by omega)) (And.intro (vp_in_nI hi (by omega)) (nm_r (e' := upd a_stored i 0) (by rw [nI_clamp (by omega), b0]) (nm_r (nI_1 i) K)))
  | succ d ih =>
    intro x a hx ea
    subst ea
    have e : (3 * nI i + nI x : Int32) = nI (3 * i + x) := ix_m 3 i x
    rw [wX_deploy_246]
    exact br_f (nI_ge (b := 3) (by omega) (by omega)) (And.intro (by rw [e]; exact vp_in_nI (by omega) (by omega)) (nm_r (e' := zr_Z a_variable (3 * i) (x + 1)) (by rw [e, nI_clamp (by omega)]; exact zr_s) (nm_r (nI_1 _) (ih (x + 1) _ (by omega) rfl))))
theorem zr_lo {a : Nat → Int32} {m i k : Nat} (h : ∀ k, k < m * i → a k = 0) (hk : k < m * (i + 1)) : zr_Z a (m * i) m k = 0 := by
  rw [Nat.mul_succ] at hk
  unfold zr_Z
  by_cases e : m * i ≤ k
  · exact if_pos ⟨e, hk⟩
  · rw [if_neg (by omega)]; exact h k (by omega)
theorem up_lo {a : Nat → Int32} {i k : Nat} (h : ∀ k, k < i → a k = 0) (hk : k < i + 1) : upd a i 0 k = 0 := by
  by_cases e : k = i
  · subst e; exact pk_us
  · rw [pk_un e]; exact h k (by omega)
theorem xl_de231 {post : Int32 → SX → Prop} {N : NT} {D : NT} (h : ∀ u', xx_R N D ds_0 ds_0 u' → post 0 u') :
    ∀ d i {f_dNodes f_dFlows f_nodes f_flows f_clock f_acts : Int32} {a_dKind a_dNumber a_dFrom a_dTo a_dWhen a_kind a_number a_from a_to a_when a_comes a_leaves a_reached a_onFlow a_inNode a_ring a_variable a_marked a_holding a_ables a_known a_stored a_journal : Nat → Int32}, i + d = 3 → xx_D D f_dNodes f_dFlows a_dKind a_dNumber a_dFrom a_dTo a_dWhen → xx_N N f_nodes f_flows a_kind a_number a_from a_to a_when a_comes a_leaves a_reached →
      (∀ k, k < 20 * i → a_onFlow k = 0) → (∀ k, k < 12 * i → a_inNode k = 0) → (∀ k, k < 120 * i → a_ring k = 0) → (∀ k, k < 3 * i → a_variable k = 0) → (∀ k, k < i → a_stored k = 0) → (∀ k, k < i → a_marked k = 0) → (∀ k, k < i → a_holding k = 0) → (∀ k, k < i → a_known k = 0) → wX_deploy_231 post (d + 1) (nI i) f_dNodes f_dFlows f_nodes f_flows f_clock f_acts a_dKind a_dNumber a_dFrom a_dTo a_dWhen a_kind a_number a_from a_to a_when a_comes a_leaves a_reached a_onFlow a_inNode a_ring a_variable a_marked a_holding a_ables a_known a_stored a_journal := by
  intro d
  induction d with
  | zero =>
    intro i f_dNodes f_dFlows f_nodes f_flows f_clock f_acts a_dKind a_dNumber a_dFrom a_dTo a_dWhen a_kind a_number a_from a_to a_when a_comes a_leaves a_reached a_onFlow a_inNode a_ring a_variable a_marked a_holding a_ables a_known a_stored a_journal hd RD RN h1 h2 h3 h4 h5 h6 h7 h8
    have : i = 3 := by omega
    subst this
    rw [wX_deploy_231]
    refine br_t (nI_le (Nat.le_refl _) (by omega)) (xl_flush (c := ds_0) (j := ds_0) RD RN ⟨fun k hk => h1 k (by omega), fun k hk => h2 k (by omega), fun k t hk ht => h3 _ (by omega), fun k hk => h4 k (by omega), fun k hk => h5 k (by omega), rfl, rfl⟩ (fun i hi => ?_) (xx_all (fun f_dNodes f_dFlows f_nodes f_flows f_clock f_acts a_dKind a_dNumber a_dFrom a_dTo a_dWhen a_kind a_number a_from a_to a_when a_comes a_leaves a_reached a_onFlow a_inNode a_ring a_variable a_marked a_holding a_ables a_known a_stored a_journal R => h _ R)))
    rw [h6 i hi, h7 i hi, h8 i hi]
    exact ⟨bm_0 (fun f _ z => absurd z.2 (Nat.lt_irrefl 0)), bm_0 (fun f _ z => absurd z.2 (Nat.lt_irrefl 0)), Or.inl rfl⟩
  | succ d ih =>
    intro i f_dNodes f_dFlows f_nodes f_flows f_clock f_acts a_dKind a_dNumber a_dFrom a_dTo a_dWhen a_kind a_number a_from a_to a_when a_comes a_leaves a_reached a_onFlow a_inNode a_ring a_variable a_marked a_holding a_ables a_known a_stored a_journal hd RD RN h1 h2 h3 h4 h5 h6 h7 h8
    rw [wX_deploy_231]
    refine br_f (nI_ge (b := 3) (by omega) (by omega)) ⟨21, xl_e2 (by omega) ⟨4, xl_de246 (by omega) (ih (i + 1) (by omega) RD RN (fun k hk => zr_lo h1 hk) (fun k hk => zr_lo h2 hk) (fun k hk => zr_lo h3 hk) (fun k hk => zr_lo h4 hk) (fun k hk => up_lo h5 hk) (fun k hk => up_lo h6 hk) (fun k hk => up_lo h7 hk) (fun k hk => up_lo h8 hk)) 3 0 _ (by omega) zr_0.symm⟩ 20 0 a_onFlow (by omega) zr_0.symm⟩
theorem xl_de199 {post : Int32 → SX → Prop} {N : NT} {D : NT} (W : nt_D N) (h : ∀ u', xx_R N D ds_0 ds_0 u' → post 0 u') :
    ∀ d k {f_dNodes f_dFlows f_nodes f_flows f_clock f_acts : Int32} {a_dKind a_dNumber a_dFrom a_dTo a_dWhen a_kind a_number a_from a_to a_when a_comes a_leaves a_reached a_onFlow a_inNode a_ring a_variable a_marked a_holding a_ables a_known a_stored a_journal : Nat → Int32}, k + d = nt_n N → xx_D D f_dNodes f_dFlows a_dKind a_dNumber a_dFrom a_dTo a_dWhen → xx_D N f_nodes f_flows a_kind a_number a_from a_to a_when → xx_L N a_comes a_leaves → (∀ g, g < k → nt_ki N g = 5 → xx_T N g a_reached) → wX_deploy_199 post (nI (nt_n N)) (d + 1) (nI k) f_dNodes f_dFlows f_nodes f_flows f_clock f_acts a_dKind a_dNumber a_dFrom a_dTo a_dWhen a_kind a_number a_from a_to a_when a_comes a_leaves a_reached a_onFlow a_inNode a_ring a_variable a_marked a_holding a_ables a_known a_stored a_journal := by
  have W12 := W.1
  have W20 := W.2.1
  intro d
  induction d with
  | zero =>
    intro k f_dNodes f_dFlows f_nodes f_flows f_clock f_acts a_dKind a_dNumber a_dFrom a_dTo a_dWhen a_kind a_number a_from a_to a_when a_comes a_leaves a_reached a_onFlow a_inNode a_ring a_variable a_marked a_holding a_ables a_known a_stored a_journal hd RD RN RL RT
    rw [wX_deploy_199]
    exact br_t (nI_le (by omega) (by omega)) ⟨4, xl_de231 h 3 0 (by omega) RD ⟨RN, RL, fun g hg => RT g (by omega)⟩ (fun k h => by omega) (fun k h => by omega) (fun k h => by omega) (fun k h => by omega) (fun k h => by omega) (fun k h => by omega) (fun k h => by omega) (fun k h => by omega)⟩
  | succ d ih =>
    intro k f_dNodes f_dFlows f_nodes f_flows f_clock f_acts a_dKind a_dNumber a_dFrom a_dTo a_dWhen a_kind a_number a_from a_to a_when a_comes a_leaves a_reached a_onFlow a_inNode a_ring a_variable a_marked a_holding a_ables a_known a_stored a_journal hd RD RN RL RT
    have kk : (nI k).toNatClampNeg = k := nI_clamp (by omega)
    have ek : a_kind (nI k).toNatClampNeg = nI (nt_ki N k) := by rw [kk]; exact RN.2.2.1 k (by omega)
    have kb := (W.2.2.2.1 k (by omega)).1
    rw [wX_deploy_199]
    refine br_f (nI_ge (by omega) (by omega)) (And.intro (vp_in_nI (by omega) (by omega)) (pk_eq (nt_ki N k) 5 (fun q => xl_reach W RN (by omega) (fun r hr hT => nm_r (nI_1 k) (ih (k + 1) (by omega) RD RN RL (fun g hg h5 => ?_)))) (fun q => nm_r (nI_1 k) (ih (k + 1) (by omega) RD RN RL (fun g hg h5 => ?_))) ek rfl))
    · by_cases e : g = k
      · subst e; exact hT
      · have T := RT g (by omega) h5
        refine ⟨fun m hm => ?_, fun f hf ne => ?_⟩
        · rw [hr _ (by omega)]; exact T.1 m hm
        · rw [hr _ (by omega)]; exact T.2 f hf ne
    · by_cases e : g = k
      · subst e; exact absurd h5 q
      · exact RT g (by omega) h5
theorem xl_de104 {post : Int32 → SX → Prop} {N : NT} {D : NT} {f_dNodes f_dFlows f_nodes f_flows f_clock f_acts : Int32} {a_dKind a_dNumber a_dFrom a_dTo a_dWhen a_kind a_number a_reached a_onFlow a_inNode a_ring a_variable a_marked a_holding a_ables a_known a_stored a_journal : Nat → Int32} (W : nt_D N) (h : ∀ u', xx_R N D ds_0 ds_0 u' → post 0 u')
    (RD : xx_D D f_dNodes f_dFlows a_dKind a_dNumber a_dFrom a_dTo a_dWhen) (e1 : f_nodes = nI (nt_n N)) (e2 : f_flows = nI (nt_f N)) (e3 : ∀ n, n < nt_n N → a_kind n = nI (nt_ki N n)) (e4 : ∀ n, n < nt_n N → a_number n = nI (nt_nu N n))
    (d1 : ∀ f, f < nt_f N → a_dFrom f = nI (nt_fr N f)) (d2 : ∀ f, f < nt_f N → a_dTo f = nI (nt_to N f)) (d3 : ∀ f, f < nt_f N → a_dWhen f = nt_wh N f) :
    ∀ d f a_from a_to a_when a_comes a_leaves, f + d = nt_f N → (∀ e, e < f → a_from e = nI (nt_fr N e)) → (∀ e, e < f → a_to e = nI (nt_to N e)) → (∀ e, e < f → a_when e = nt_wh N e) →
      (∀ n, n < nt_n N → bm_S (a_comes n) (fun e => e < f ∧ nt_to N e = n)) → (∀ n, n < nt_n N → bm_S (a_leaves n) (fun e => e < f ∧ nt_fr N e = n)) → wX_deploy_104 post (nI (nt_n N)) (nI (nt_f N)) f_dNodes f_dFlows f_nodes f_flows f_clock f_acts (d + 1) (nI f) a_dKind a_dNumber a_dFrom a_dTo a_dWhen a_kind a_number a_from a_to a_when a_comes a_leaves a_reached a_onFlow a_inNode a_ring a_variable a_marked a_holding a_ables a_known a_stored a_journal := by
  have W12 := W.1
  have W20 := W.2.1
  intro d
  induction d with
  | zero =>
    intro f a_from a_to a_when a_comes a_leaves hd g1 g2 g3 g4 g5
    have : f = nt_f N := by omega
    subst this
    rw [wX_deploy_104]
    exact br_t (nI_le (Nat.le_refl _) (by omega)) ⟨nt_n N + 1, xl_de199 W h (nt_n N) 0 (by omega) RD ⟨e1, e2, e3, e4, g1, g2, g3⟩ ⟨g4, g5⟩ (fun g hg => by omega)⟩
  | succ d ih =>
    intro f a_from a_to a_when a_comes a_leaves hd g1 g2 g3 g4 g5
    have hff := W.2.2.1 f (by omega)
    have vf : vp_in (nI f) 20 := vp_in_nI (by omega) (by omega)
    have kf : (nI f).toNatClampNeg = f := nI_clamp (by omega)
    have vfr : vp_in (nI (nt_fr N f)) 12 := vp_in_nI (by omega) (by omega)
    have vto : vp_in (nI (nt_to N f)) 12 := vp_in_nI (by omega) (by omega)
    have kfr : (nI (nt_fr N f)).toNatClampNeg = nt_fr N f := nI_clamp (by omega)
    have kto : (nI (nt_to N f)).toNatClampNeg = nt_to N f := nI_clamp (by omega)
    have F1 : upd a_from f (nI (nt_fr N f)) (nI f).toNatClampNeg = nI (nt_fr N f) := by rw [kf]; exact pk_us
    have F2 : upd a_to f (nI (nt_to N f)) (nI f).toNatClampNeg = nI (nt_to N f) := by rw [kf]; exact pk_us
    rw [wX_deploy_104]
    refine br_f (nI_ge (by omega) (by omega)) (And.intro vf (And.intro vf (nm_r (e' := upd a_from f (nI (nt_fr N f))) (by rw [kf, d1 f (by omega), ix_bN _ (by omega)]) (And.intro vf (And.intro vf (nm_r (e' := upd a_to f (nI (nt_to N f))) (by rw [kf, d2 f (by omega), ix_bN _ (by omega)]) (And.intro vf (And.intro vf (nm_r (e' := upd a_when f (nt_wh N f)) (by rw [kf, d3 f (by omega), ix_bw (W.2.2.2.2 f (by omega))]) (And.intro vf ?_))))))))))
    rw [F1, F2]
    refine And.intro vfr (And.intro vfr (nm_r (e' := upd a_leaves (nt_fr N f) (a_leaves (nt_fr N f) ||| ((1 : Int32) <<< (nI f &&& 31)))) (by rw [kfr]) (And.intro vf (And.intro vto (And.intro vto (nm_r (e' := upd a_comes (nt_to N f) (a_comes (nt_to N f) ||| ((1 : Int32) <<< (nI f &&& 31)))) (by rw [kto]) (nm_r (nI_1 f) (ih (f + 1) _ _ _ _ _ (by omega) (fun e he => ?_) (fun e he => ?_) (fun e he => ?_) (fun n hn => ?_) (fun n hn => ?_)))))))))
    · by_cases q : e = f
      · subst q; exact pk_us
      · rw [pk_un q]; exact g1 e (by omega)
    · by_cases q : e = f
      · subst q; exact pk_us
      · rw [pk_un q]; exact g2 e (by omega)
    · by_cases q : e = f
      · subst q; exact pk_us
      · rw [pk_un q]; exact g3 e (by omega)
    · by_cases q : n = nt_to N f
      · subst q
        rw [pk_us]
        refine bm_imp (bm_or1 (g4 _ hn) (by omega)) (fun e _ => ⟨fun z => ?_, fun z => ?_⟩)
        · rcases z with z | z
          · exact ⟨by omega, z.2⟩
          · subst z; exact ⟨by omega, rfl⟩
        · by_cases r : e = f
          · exact Or.inr r
          · exact Or.inl ⟨by omega, z.2⟩
      · rw [pk_un q]
        refine bm_imp (g4 _ hn) (fun e _ => ⟨fun z => ⟨by omega, z.2⟩, fun z => ⟨?_, z.2⟩⟩)
        by_cases r : e = f
        · subst r; exact absurd z.2.symm q
        · omega
    · by_cases q : n = nt_fr N f
      · subst q
        rw [pk_us]
        refine bm_imp (bm_or1 (g5 _ hn) (by omega)) (fun e _ => ⟨fun z => ?_, fun z => ?_⟩)
        · rcases z with z | z
          · exact ⟨by omega, z.2⟩
          · subst z; exact ⟨by omega, rfl⟩
        · by_cases r : e = f
          · exact Or.inr r
          · exact Or.inl ⟨by omega, z.2⟩
      · rw [pk_un q]
        refine bm_imp (g5 _ hn) (fun e _ => ⟨fun z => ⟨by omega, z.2⟩, fun z => ⟨?_, z.2⟩⟩)
        by_cases r : e = f
        · subst r; exact absurd z.2.symm q
        · omega
theorem xl_de45 {post : Int32 → SX → Prop} {N : NT} {D : NT} {f_dNodes f_dFlows f_nodes f_flows f_clock f_acts : Int32} {a_dKind a_dNumber a_dFrom a_dTo a_dWhen a_from a_to a_when a_reached a_onFlow a_inNode a_ring a_variable a_marked a_holding a_ables a_known a_stored a_journal : Nat → Int32} (W : nt_D N) (h : ∀ u', xx_R N D ds_0 ds_0 u' → post 0 u')
    (RD : xx_D D f_dNodes f_dFlows a_dKind a_dNumber a_dFrom a_dTo a_dWhen) (e1 : f_nodes = nI (nt_n N)) (e2 : f_flows = nI (nt_f N)) (e3 : ∀ n, n < nt_n N → a_dKind n = nI (nt_ki N n)) (e4 : ∀ n, n < nt_n N → a_dNumber n = nI (nt_nu N n))
    (d1 : ∀ f, f < nt_f N → a_dFrom f = nI (nt_fr N f)) (d2 : ∀ f, f < nt_f N → a_dTo f = nI (nt_to N f)) (d3 : ∀ f, f < nt_f N → a_dWhen f = nt_wh N f) :
    ∀ d n a_kind a_number a_comes a_leaves, n + d = nt_n N → (∀ e, e < n → a_kind e = nI (nt_ki N e)) → (∀ e, e < n → a_number e = nI (nt_nu N e)) →
      (∀ e, e < n → a_comes e = 0) → (∀ e, e < n → a_leaves e = 0) → wX_deploy_45 post (nI (nt_n N)) (nI (nt_f N)) f_dNodes f_dFlows f_nodes f_flows f_clock f_acts (d + 1) (nI n) a_dKind a_dNumber a_dFrom a_dTo a_dWhen a_kind a_number a_from a_to a_when a_comes a_leaves a_reached a_onFlow a_inNode a_ring a_variable a_marked a_holding a_ables a_known a_stored a_journal := by
  have W12 := W.1
  have W20 := W.2.1
  intro d
  induction d with
  | zero =>
    intro n a_kind a_number a_comes a_leaves hd g1 g2 g3 g4
    have : n = nt_n N := by omega
    subst this
    rw [wX_deploy_45]
    exact br_t (nI_le (Nat.le_refl _) (by omega)) ⟨nt_f N + 1, xl_de104 W h RD e1 e2 g1 g2 d1 d2 d3 (nt_f N) 0 _ _ _ _ _ (by omega) (fun e he => by omega) (fun e he => by omega) (fun e he => by omega) (fun n hn => by rw [g3 n hn]; exact bm_0 (fun f _ z => by omega)) (fun n hn => by rw [g4 n hn]; exact bm_0 (fun f _ z => by omega))⟩
  | succ d ih =>
    intro n a_kind a_number a_comes a_leaves hd g1 g2 g3 g4
    obtain ⟨w1, w2, _⟩ := W.2.2.2.1 n (by omega)
    have vn : vp_in (nI n) 12 := vp_in_nI (by omega) (by omega)
    have kn : (nI n).toNatClampNeg = n := nI_clamp (by omega)
    rw [wX_deploy_45]
    refine br_f (nI_ge (by omega) (by omega)) (And.intro vn (And.intro vn (nm_r (e' := upd a_kind n (nI (nt_ki N n))) (by rw [kn, e3 n (by omega), ix_bN _ (by omega)]) (And.intro vn (And.intro vn (nm_r (e' := upd a_number n (nI (nt_nu N n))) (by rw [kn, e4 n (by omega), ix_bN _ (by omega)]) (And.intro vn (nm_r (e' := upd a_comes n 0) (by rw [kn]) (And.intro vn (nm_r (e' := upd a_leaves n 0) (by rw [kn]) (nm_r (nI_1 n) (ih (n + 1) _ _ _ _ (by omega) (fun e he => ?_) (fun e he => ?_) (fun e he => up_lo g3 he) (fun e he => up_lo g4 he)))))))))))))
    · by_cases q : e = n
      · subst q; exact pk_us
      · rw [pk_un q]; exact g1 e (by omega)
    · by_cases q : e = n
      · subst q; exact pk_us
      · rw [pk_un q]; exact g2 e (by omega)
theorem xl_deploy {post : Int32 → SX → Prop} {N D : NT} {c j : DS} {f_dNodes f_dFlows f_nodes f_flows f_clock f_acts : Int32} {a_dKind a_dNumber a_dFrom a_dTo a_dWhen a_kind a_number a_from a_to a_when a_comes a_leaves a_reached a_onFlow a_inNode a_ring a_variable a_marked a_holding a_ables a_known a_stored a_journal : Nat → Int32} (WD : nt_D D) (R : xx_R N D c j (f_dNodes, f_dFlows, f_nodes, f_flows, f_clock, f_acts, a_dKind, a_dNumber, a_dFrom, a_dTo, a_dWhen, a_kind, a_number, a_from, a_to, a_when, a_comes, a_leaves, a_reached, a_onFlow, a_inNode, a_ring, a_variable, a_marked, a_holding, a_ables, a_known, a_stored, a_journal)) (h1 : sd_D D → ∀ u', xx_R D nt_0 ds_0 ds_0 u' → post 0 u') (h0 : ¬ sd_D D → ∀ u', xx_R N nt_0 c j u' → post (-2) u') : wpX_deploy post (f_dNodes, f_dFlows, f_nodes, f_flows, f_clock, f_acts, a_dKind, a_dNumber, a_dFrom, a_dTo, a_dWhen, a_kind, a_number, a_from, a_to, a_when, a_comes, a_leaves, a_reached, a_onFlow, a_inNode, a_ring, a_variable, a_marked, a_holding, a_ables, a_known, a_stored, a_journal) := by
  obtain ⟨RD, RN, RS, RM, RJ⟩ := R
  refine xl_isSound WD RD (fun q => br_f ix_10 ⟨nt_n D + 1, ?_⟩) (fun q => br_t rfl (h0 q _ ⟨ix_D0, RN, RS, RM, RJ⟩))
  rw [RD.1, RD.2.1]
  exact xl_de45 WD (h1 q) ix_D0 rfl rfl RD.2.2.1 RD.2.2.2.1 RD.2.2.2.2.1 RD.2.2.2.2.2.1 RD.2.2.2.2.2.2 (nt_n D) 0 _ _ _ _ (by omega) (fun e he => by omega) (fun e he => by omega) (fun e he => by omega) (fun e he => by omega)
end
section
/-! Y: deploy -/
def em_Z (c : DS) (i : Nat) : Prop := (∀ k, k < 20 * i → ds_on c k = 0) ∧ (∀ k, k < 12 * i → ds_in c k = 0) ∧ (∀ k, k < 120 * i → ds_tm c k = 0)
theorem em_s {c : DS} {i : Nat} (h : em_Z c i) : em_Z (dc_emp c i) (i + 1) := by
  refine ⟨fun k hk => ?_, fun k hk => ?_, fun k hk => ?_⟩
  · show (if 20 * i ≤ k ∧ k < 20 * i + 20 then 0 else ds_on c k) = 0
    by_cases e : 20 * i ≤ k
    · exact if_pos (by omega)
    · rw [if_neg (by omega)]; exact h.1 k (by omega)
  · show (if 12 * i ≤ k ∧ k < 12 * i + 12 then 0 else ds_in c k) = 0
    by_cases e : 12 * i ≤ k
    · exact if_pos (by omega)
    · rw [if_neg (by omega)]; exact h.2.1 k (by omega)
  · show (if 120 * i ≤ k ∧ k < 120 * i + 120 then 0 else ds_tm c k) = 0
    by_cases e : 120 * i ≤ k
    · exact if_pos (by omega)
    · rw [if_neg (by omega)]; exact h.2.2 k (by omega)
theorem zr_s0 {a : Nat → Int32} {x : Nat} : upd (zr_Z a 0 x) x 0 = zr_Z a 0 (x + 1) := by
  have := zr_s (a := a) (lo := 0) (x := x)
  rw [Nat.zero_add] at this
  exact this
theorem yl_de206 {post : Int32 → SY → Prop} {b_kind b_number b_from b_to b_cond b_nodes b_flows b_variables b_on b_in b_times b_stored b_clock b_acts b_reached : Nat → Int32} (h : wpY_write (fun u => match u with | (b_kind, b_number, b_from, b_to, b_cond, b_nodes, b_flows, b_variables, b_on, b_in, b_times, b_stored, b_clock, b_acts, b_reached) => post 0 (b_kind, b_number, b_from, b_to, b_cond, b_nodes, b_flows, b_variables, b_on, b_in, b_times, b_stored, b_clock, b_acts, b_reached)) (b_kind, b_number, b_from, b_to, b_cond, b_nodes, b_flows, b_variables, b_on, b_in, b_times, zr_Z b_stored 0 3, upd b_clock 0 0, upd b_acts 0 0, b_reached) 0 1) :
    ∀ d x a, x + d = 3 → a = zr_Z b_stored 0 x → wY_deploy_206 post (d + 1) (nI x) b_kind b_number b_from b_to b_cond b_nodes b_flows b_variables b_on b_in b_times a b_clock b_acts b_reached := by
  intro d
  induction d with
  | zero =>
    intro x a hx ea
    have : x = 3 := by omega
    subst this
    subst ea
    rw [wY_deploy_206]
    exact br_t (nI_le (Nat.le_refl _) (by omega)) (nm_e (nm_e h))
  | succ d ih =>
    intro x a hx ea
    subst ea
    rw [wY_deploy_206]
    exact br_f (nI_ge (b := 3) (by omega) (by omega)) (And.intro (vp_in_nI (by omega) (by omega)) (nm_r (e' := zr_Z b_stored 0 (x + 1)) (by rw [nI_clamp (by omega)]; exact zr_s0) (nm_r (nI_1 _) (ih (x + 1) _ (by omega) rfl))))
theorem yl_de185 {post : Int32 → SY → Prop} {b_kind b_number b_from b_to b_cond b_nodes b_flows b_variables b_on b_in b_times b_stored b_clock b_acts b_reached : Nat → Int32} (h : wpY_write (fun u => match u with | (b_kind, b_number, b_from, b_to, b_cond, b_nodes, b_flows, b_variables, b_on, b_in, b_times, b_stored, b_clock, b_acts, b_reached) => post 0 (b_kind, b_number, b_from, b_to, b_cond, b_nodes, b_flows, b_variables, b_on, b_in, b_times, b_stored, b_clock, b_acts, b_reached)) (b_kind, b_number, b_from, b_to, b_cond, b_nodes, b_flows, zr_Z b_variables 0 9, b_on, b_in, b_times, zr_Z b_stored 0 3, upd b_clock 0 0, upd b_acts 0 0, b_reached) 0 1) :
    ∀ d x a, x + d = 9 → a = zr_Z b_variables 0 x → wY_deploy_185 post (d + 1) (nI x) b_kind b_number b_from b_to b_cond b_nodes b_flows a b_on b_in b_times b_stored b_clock b_acts b_reached := by
  intro d
  induction d with
  | zero =>
    intro x a hx ea
    have : x = 9 := by omega
    subst this
    subst ea
    rw [wY_deploy_185]
    exact br_t (nI_le (Nat.le_refl _) (by omega)) ⟨4, yl_de206 h 3 0 _ (by omega) zr_0.symm⟩
  | succ d ih =>
    intro x a hx ea
    subst ea
    rw [wY_deploy_185]
    exact br_f (nI_ge (b := 9) (by omega) (by omega)) (And.intro (vp_in_nI (by omega) (by omega)) (nm_r (e' := zr_Z b_variables 0 (x + 1)) (by rw [nI_clamp (by omega)]; exact zr_s0) (nm_r (nI_1 _) (ih (x + 1) _ (by omega) rfl))))
theorem yl_de167 {post : Int32 → SY → Prop} {N D : NT} {j : DS} (h : ∀ v', yy_R N D ds_0 ds_0 v' → post 0 v') :
    ∀ d i c {b_kind b_number b_from b_to b_cond b_nodes b_flows b_variables b_on b_in b_times b_stored b_clock b_acts b_reached : Nat → Int32}, i + d = 3 → em_Z c i → yy_R N D c j (b_kind, b_number, b_from, b_to, b_cond, b_nodes, b_flows, b_variables, b_on, b_in, b_times, b_stored, b_clock, b_acts, b_reached) → wY_deploy_167 post (d + 1) (nI i) b_kind b_number b_from b_to b_cond b_nodes b_flows b_variables b_on b_in b_times b_stored b_clock b_acts b_reached := by
  intro d
  induction d with
  | zero =>
    intro i c b_kind b_number b_from b_to b_cond b_nodes b_flows b_variables b_on b_in b_times b_stored b_clock b_acts b_reached hd hz R
    have : i = 3 := by omega
    subst this
    rw [wY_deploy_167]
    refine br_t (nI_le (Nat.le_refl _) (by omega)) ⟨10, yl_de185 (yl_flushS (c := ds_0) R.1 R.2.1 ⟨fun k hk => ?_, fun k hk => ?_, fun k hk => ?_, fun k hk => ?_, fun k hk => ?_, rfl, rfl⟩ (yy_all (fun b_kind b_number b_from b_to b_cond b_nodes b_flows b_variables b_on b_in b_times b_stored b_clock b_acts b_reached R => h _ R))) 9 0 _ (by omega) zr_0.symm⟩
    · rw [R.2.2.1.1 k hk, hz.1 k (by omega)]; rfl
    · rw [R.2.2.1.2.1 k hk, hz.2.1 k (by omega), Nat.zero_sub]; rfl
    · rw [R.2.2.1.2.2.1 k hk, hz.2.2 k (by omega)]; rfl
    · exact if_pos (by omega)
    · exact if_pos (by omega)
  | succ d ih =>
    intro i c b_kind b_number b_from b_to b_cond b_nodes b_flows b_variables b_on b_in b_times b_stored b_clock b_acts b_reached hd hz R
    rw [wY_deploy_167]
    exact br_f (nI_ge (b := 3) (by omega) (by omega)) (yl_empty R (by omega) (yy_all (fun b_kind b_number b_from b_to b_cond b_nodes b_flows b_variables b_on b_in b_times b_stored b_clock b_acts b_reached R' => nm_r (nI_1 i) (ih (i + 1) (dc_emp c i) (by omega) (em_s hz) R'))))
theorem yl_de144 {post : Int32 → SY → Prop} {D : NT} {c j : DS} {b_kind b_number b_from b_to b_cond b_nodes b_flows b_variables b_on b_in b_times b_stored b_clock b_acts b_reached : Nat → Int32} (W : nt_D D) (e1 : b_nodes 1 = nI (nt_n D)) (e2 : b_flows 1 = nI (nt_f D))
    (g1 : ∀ n, n < nt_n D → b_kind n = nI (nt_ki D n)) (g2 : ∀ n, n < nt_n D → b_number n = nI (nt_nu D n)) (g3 : ∀ f, f < nt_f D → b_from f = nI (nt_fr D f)) (g4 : ∀ f, f < nt_f D → b_to f = nI (nt_to D f)) (g5 : ∀ f, f < nt_f D → b_cond f = nt_wh D f)
    (RS : yy_S c b_variables b_on b_in b_times b_stored (b_clock 0) (b_acts 0)) (RJ : yy_J j b_variables b_on b_in b_times b_stored b_clock b_acts)
    (h : ∀ v', yy_R D nt_0 ds_0 ds_0 v' → post 0 v') : wY_deploy_116 post 1 b_kind b_number b_from b_to b_cond b_nodes b_flows b_variables b_on b_in b_times b_stored b_clock b_acts b_reached := by
  have W12 := W.1
  have W20 := W.2.1
  have b0 : vp_nar .byte 0 = 0 := ix_bN 0 (by omega)
  refine br_f ix_10 (nm_r (e' := upd b_nodes 0 (nI (nt_n D))) (by rw [e1, ix_bN _ (by omega)]) (nm_r (e' := upd b_flows 0 (nI (nt_f D))) (by rw [e2, ix_bN _ (by omega)]) (nm_r (e' := upd (upd b_nodes 0 (nI (nt_n D))) 1 0) (by rw [b0]) (nm_r (e' := upd (upd b_flows 0 (nI (nt_f D))) 1 0) (by rw [b0]) (br_f ix_10 ⟨4, ?_⟩)))))
  exact yl_de167 h 3 0 c (by omega) ⟨fun k hk => by omega, fun k hk => by omega, fun k hk => by omega⟩ ⟨ix_D0, ⟨rfl, rfl, g1, g2, g3, g4, g5⟩, RS, RJ⟩
theorem yl_de55 {post : Int32 → SY → Prop} {D : NT} {c j : DS} {b_kind b_number b_from b_to b_cond b_nodes b_flows b_variables b_on b_in b_times b_stored b_clock b_acts b_reached : Nat → Int32} (W : nt_D D) (e1 : b_nodes 1 = nI (nt_n D)) (e2 : b_flows 1 = nI (nt_f D))
    (g1 : ∀ n, n < nt_n D → b_kind n = nI (nt_ki D n)) (g2 : ∀ n, n < nt_n D → b_number n = nI (nt_nu D n)) (d3 : ∀ f, f < nt_f D → b_from (20 + f) = nI (nt_fr D f)) (d4 : ∀ f, f < nt_f D → b_to (20 + f) = nI (nt_to D f)) (d5 : ∀ f, f < nt_f D → b_cond (20 + f) = nt_wh D f)
    (RS : yy_S c b_variables b_on b_in b_times b_stored (b_clock 0) (b_acts 0)) (RJ : yy_J j b_variables b_on b_in b_times b_stored b_clock b_acts)
    (h : ∀ v', yy_R D nt_0 ds_0 ds_0 v' → post 0 v') :
    ∀ d x p q r, x + d = 20 → (∀ e, p (20 + e) = b_from (20 + e)) → (∀ e, q (20 + e) = b_to (20 + e)) → (∀ e, r (20 + e) = b_cond (20 + e)) → (∀ e, e < x → e < nt_f D → p e = nI (nt_fr D e)) → (∀ e, e < x → e < nt_f D → q e = nI (nt_to D e)) → (∀ e, e < x → e < nt_f D → r e = nt_wh D e) → wY_deploy_55 post 1 (d + 1) (nI x) b_kind b_number p q r b_nodes b_flows b_variables b_on b_in b_times b_stored b_clock b_acts b_reached := by
  have W12 := W.1
  have W20 := W.2.1
  intro d
  induction d with
  | zero =>
    intro x p q r hx _ _ _ g3 g4 g5
    have : x = 20 := by omega
    subst this
    rw [wY_deploy_55]
    exact br_t (nI_le (Nat.le_refl _) (by omega)) (yl_de144 (c := c) (j := j) W e1 e2 g1 g2 (fun f hf => g3 f (by omega) hf) (fun f hf => g4 f (by omega) hf) (fun f hf => g5 f (by omega) hf) RS RJ h)
  | succ d ih =>
    intro x p q r hx f3 f4 f5 g3 g4 g5
    have e20 : (20 + nI x : Int32) = nI (20 + x) := nI_add 20 x
    have v2 : vp_in (20 + nI x) 40 := by rw [e20]; exact vp_in_nI (by omega) (by omega)
    have v1 : vp_in (nI x) 40 := vp_in_nI (by omega) (by omega)
    have k2 : (20 + nI x).toNatClampNeg = 20 + x := by rw [e20]; exact nI_clamp (by omega)
    have k1 : (nI x).toNatClampNeg = x := nI_clamp (by omega)
    rw [wY_deploy_55]
    refine br_f (nI_ge (b := 20) (by omega) (by omega)) (br_f ix_10 (And.intro v2 (And.intro v1 (nm_r (e' := upd p x (vp_nar .byte (b_from (20 + x)))) (by rw [k1, k2, f3]) (And.intro v2 (And.intro v1 (nm_r (e' := upd q x (vp_nar .byte (b_to (20 + x)))) (by rw [k1, k2, f4]) (And.intro v2 (And.intro v1 (nm_r (e' := upd r x (vp_nar .byte (b_cond (20 + x)))) (by rw [k1, k2, f5]) (nm_r (nI_1 x) (ih (x + 1) _ _ _ (by omega) (fun e => ?_) (fun e => ?_) (fun e => ?_) (fun e he hf => ?_) (fun e he hf => ?_) (fun e he hf => ?_)))))))))))))
    · rw [pk_un (by omega)]; exact f3 e
    · rw [pk_un (by omega)]; exact f4 e
    · rw [pk_un (by omega)]; exact f5 e
    · by_cases z : e = x
      · subst z
        have := (W.2.2.1 e hf).1
        rw [pk_us, d3 e hf, ix_bN _ (by omega)]
      · rw [pk_un z]; exact g3 e (by omega) hf
    · by_cases z : e = x
      · subst z
        have := (W.2.2.1 e hf).2
        rw [pk_us, d4 e hf, ix_bN _ (by omega)]
      · rw [pk_un z]; exact g4 e (by omega) hf
    · by_cases z : e = x
      · subst z
        rw [pk_us, d5 e hf, ix_bw (W.2.2.2.2 e hf)]
      · rw [pk_un z]; exact g5 e (by omega) hf
theorem yl_de7 {post : Int32 → SY → Prop} {N D : NT} {c j : DS} {b_kind b_number b_from b_to b_cond b_nodes b_flows b_variables b_on b_in b_times b_stored b_clock b_acts b_reached : Nat → Int32} (W : nt_D D) (R : yy_R N D c j (b_kind, b_number, b_from, b_to, b_cond, b_nodes, b_flows, b_variables, b_on, b_in, b_times, b_stored, b_clock, b_acts, b_reached)) (h : ∀ v', yy_R D nt_0 ds_0 ds_0 v' → post 0 v') :
    ∀ d x p q, x + d = 12 → (∀ e, p (12 + e) = b_kind (12 + e)) → (∀ e, q (12 + e) = b_number (12 + e)) → (∀ e, e < x → e < nt_n D → p e = nI (nt_ki D e)) → (∀ e, e < x → e < nt_n D → q e = nI (nt_nu D e)) → wY_deploy_7 post 1 (d + 1) (nI x) p q b_from b_to b_cond b_nodes b_flows b_variables b_on b_in b_times b_stored b_clock b_acts b_reached := by
  have W12 := W.1
  have W20 := W.2.1
  obtain ⟨RD, RN, RS, RJ⟩ := R
  intro d
  induction d with
  | zero =>
    intro x p q hx _ _ g1 g2
    have : x = 12 := by omega
    subst this
    rw [wY_deploy_7]
    exact br_t (nI_le (Nat.le_refl _) (by omega)) ⟨21, yl_de55 (c := c) (j := j) W RD.1 RD.2.1 (fun n hn => g1 n (by omega) hn) (fun n hn => g2 n (by omega) hn) RD.2.2.2.2.1 RD.2.2.2.2.2.1 RD.2.2.2.2.2.2 RS RJ h 20 0 b_from b_to b_cond (by omega) (fun e => rfl) (fun e => rfl) (fun e => rfl) (fun e he => by omega) (fun e he => by omega) (fun e he => by omega)⟩
  | succ d ih =>
    intro x p q hx f1 f2 g1 g2
    have e12 : (12 + nI x : Int32) = nI (12 + x) := nI_add 12 x
    have v2 : vp_in (12 + nI x) 24 := by rw [e12]; exact vp_in_nI (by omega) (by omega)
    have v1 : vp_in (nI x) 24 := vp_in_nI (by omega) (by omega)
    have k2 : (12 + nI x).toNatClampNeg = 12 + x := by rw [e12]; exact nI_clamp (by omega)
    have k1 : (nI x).toNatClampNeg = x := nI_clamp (by omega)
    rw [wY_deploy_7]
    refine br_f (nI_ge (b := 12) (by omega) (by omega)) (br_f ix_10 (And.intro v2 (And.intro v1 (nm_r (e' := upd p x (vp_nar .byte (b_kind (12 + x)))) (by rw [k1, k2, f1]) (And.intro v2 (And.intro v1 (nm_r (e' := upd q x (vp_nar .byte (b_number (12 + x)))) (by rw [k1, k2, f2]) (nm_r (nI_1 x) (ih (x + 1) _ _ (by omega) (fun e => ?_) (fun e => ?_) (fun e he hf => ?_) (fun e he hf => ?_))))))))))
    · rw [pk_un (by omega)]; exact f1 e
    · rw [pk_un (by omega)]; exact f2 e
    · by_cases z : e = x
      · subst z
        have := (W.2.2.2.1 e hf).1
        rw [pk_us, show b_kind (12 + e) = nI (nt_ki D e) from RD.2.2.1 e hf, ix_bN _ (by omega)]
      · rw [pk_un z]; exact g1 e (by omega) hf
    · by_cases z : e = x
      · subst z
        have := (W.2.2.2.1 e hf).2.1
        rw [pk_us, show b_number (12 + e) = nI (nt_nu D e) from RD.2.2.2.1 e hf, ix_bN _ (by omega)]
      · rw [pk_un z]; exact g2 e (by omega) hf
theorem yl_deploy {post : Int32 → SY → Prop} {N D : NT} {c j : DS} {b_kind b_number b_from b_to b_cond b_nodes b_flows b_variables b_on b_in b_times b_stored b_clock b_acts b_reached : Nat → Int32} (WD : nt_D D) (R : yy_R N D c j (b_kind, b_number, b_from, b_to, b_cond, b_nodes, b_flows, b_variables, b_on, b_in, b_times, b_stored, b_clock, b_acts, b_reached)) (h1 : sd_D D → ∀ v', yy_R D nt_0 ds_0 ds_0 v' → post 0 v') (h0 : ¬ sd_D D → ∀ v', yy_R N nt_0 c j v' → post (-2) v') : wpY_deploy post (b_kind, b_number, b_from, b_to, b_cond, b_nodes, b_flows, b_variables, b_on, b_in, b_times, b_stored, b_clock, b_acts, b_reached) := by
  have b0 : vp_nar .byte 0 = 0 := ix_bN 0 (by omega)
  refine yl_sound WD R.1 (fun q => ⟨13, yl_de7 WD R (h1 q) 12 0 b_kind b_number (by omega) (fun e => rfl) (fun e => rfl) (fun e he => by omega) (fun e he => by omega)⟩) (fun q => ⟨1, ?_⟩)
  rw [wY_deploy_7]
  refine br_f (by decide) (br_t rfl ⟨1, ?_⟩)
  rw [wY_deploy_55]
  exact br_f (by decide) (br_t rfl (br_t rfl (nm_r (e' := upd b_nodes 1 0) (by rw [b0]) (nm_r (e' := upd b_flows 1 0) (by rw [b0]) (br_t rfl (h0 q _ ⟨ix_D0, R.2.1, R.2.2⟩))))))
end
section
/-! the relation, and the calls that need little -/
theorem iz_le1 {x : Int32} {n : Nat} (h : n < 2 ^ 31) : nI n ≤ x ↔ (n : Int) ≤ x.toInt := by rw [Int32.le_iff_toInt_le, nI_toInt h]
theorem iz_le2 {x : Int32} {n : Nat} (h : n < 2 ^ 31) : x ≤ nI n ↔ x.toInt ≤ (n : Int) := by rw [Int32.le_iff_toInt_le, nI_toInt h]
theorem iz_lt1 {x : Int32} {n : Nat} (h : n < 2 ^ 31) : nI n < x ↔ (n : Int) < x.toInt := by rw [Int32.lt_iff_toInt_lt, nI_toInt h]
theorem iz_lt2 {x : Int32} {n : Nat} (h : n < 2 ^ 31) : x < nI n ↔ x.toInt < (n : Int) := by rw [Int32.lt_iff_toInt_lt, nI_toInt h]
theorem iz_eq {x : Int32} {n : Nat} (h : n < 2 ^ 31) : x = nI n ↔ x.toInt = (n : Int) := by rw [← Int32.toInt_inj, nI_toInt h]
theorem iz_if {c d A B : Prop} (e : c ↔ d) (f : d → A) (g : ¬ d → B) : (c → A) ∧ (¬ c → B) := ⟨fun h => f (e.mp h), fun h => g (fun z => h (e.mpr z))⟩
theorem iz_of {x : Int32} {n : Nat} (h0 : 0 ≤ x.toInt) (h1 : x.toInt < (n : Int)) (hn : n < 2 ^ 31) : ∃ k, k < n ∧ x = nI k := by
  refine ⟨x.toInt.toNat, by omega, ?_⟩
  rw [iz_eq (by omega)]
  omega
theorem xl_among {post : Int32 → Prop} {x : Int32} {n : Nat} (hn : n < 2 ^ 31) (h1 : 0 ≤ x.toInt → x.toInt < (n : Int) → post 1) (h0 : ¬ (0 ≤ x.toInt ∧ x.toInt < (n : Int)) → post 0) : wpX_among post x (nI n) :=
  iz_if (iz_lt2 (n := 0) (by omega)) (fun a => h0 (by omega)) (fun a => iz_if (iz_le1 hn) (fun b => h0 (by omega)) (fun b => h1 (by omega) (by omega)))
theorem yl_out {post : Int32 → Prop} {x : Int32} {n : Nat} (hn : n < 2 ^ 31) (h1 : 0 ≤ x.toInt → x.toInt < (n : Int) → post 0) (h0 : ¬ (0 ≤ x.toInt ∧ x.toInt < (n : Int)) → post 1) : wpY_out post x (nI n) :=
  iz_if (iz_lt2 (n := 0) (by omega)) (fun a => h0 (by omega)) (fun a => iz_if (iz_lt2 hn) (fun b => h1 (by omega) (by omega)) (fun b => h0 (by omega)))
def i_Rel (k : Nat) (u : SX) (v : SY) : Prop := ∃ N D c j, xx_R N D c j u ∧ yy_R N D c j v ∧ nt_W N ∧ nt_D D ∧ ic_C N (100 * k) c ∧ ic_C N (100 * k) j
theorem i_up {k : Nat} {u : SX} {v : SY} (h : i_Rel k u v) : i_Rel (k + 5) u v := by
  obtain ⟨N, D, c, j, a1, a2, a3, a4, a5, a6⟩ := h
  exact ⟨N, D, c, j, a1, a2, a3, a4, ic_up a5 (by omega), ic_up a6 (by omega)⟩
theorem zz_el {k : Nat} {P : SX → SY → Prop} (h : ∀ f_dNodes f_dFlows f_nodes f_flows f_clock f_acts a_dKind a_dNumber a_dFrom a_dTo a_dWhen a_kind a_number a_from a_to a_when a_comes a_leaves a_reached a_onFlow a_inNode a_ring a_variable a_marked a_holding a_ables a_known a_stored a_journal b_kind b_number b_from b_to b_cond b_nodes b_flows b_variables b_on b_in b_times b_stored b_clock b_acts b_reached N D c j, xx_R N D c j (f_dNodes, f_dFlows, f_nodes, f_flows, f_clock, f_acts, a_dKind, a_dNumber, a_dFrom, a_dTo, a_dWhen, a_kind, a_number, a_from, a_to, a_when, a_comes, a_leaves, a_reached, a_onFlow, a_inNode, a_ring, a_variable, a_marked, a_holding, a_ables, a_known, a_stored, a_journal) → yy_R N D c j (b_kind, b_number, b_from, b_to, b_cond, b_nodes, b_flows, b_variables, b_on, b_in, b_times, b_stored, b_clock, b_acts, b_reached) → nt_W N → nt_D D → ic_C N (100 * k) c → ic_C N (100 * k) j → P (f_dNodes, f_dFlows, f_nodes, f_flows, f_clock, f_acts, a_dKind, a_dNumber, a_dFrom, a_dTo, a_dWhen, a_kind, a_number, a_from, a_to, a_when, a_comes, a_leaves, a_reached, a_onFlow, a_inNode, a_ring, a_variable, a_marked, a_holding, a_ables, a_known, a_stored, a_journal) (b_kind, b_number, b_from, b_to, b_cond, b_nodes, b_flows, b_variables, b_on, b_in, b_times, b_stored, b_clock, b_acts, b_reached)) {u : SX} {v : SY} (I : i_Rel k u v) : P u v := by
  obtain ⟨N, D, c, j, a1, a2, a3, a4, a5, a6⟩ := I
  exact xx_all (P := fun u => xx_R N D c j u → P u v) (fun f_dNodes f_dFlows f_nodes f_flows f_clock f_acts a_dKind a_dNumber a_dFrom a_dTo a_dWhen a_kind a_number a_from a_to a_when a_comes a_leaves a_reached a_onFlow a_inNode a_ring a_variable a_marked a_holding a_ables a_known a_stored a_journal b1 => yy_all (P := fun v => yy_R N D c j v → P (f_dNodes, f_dFlows, f_nodes, f_flows, f_clock, f_acts, a_dKind, a_dNumber, a_dFrom, a_dTo, a_dWhen, a_kind, a_number, a_from, a_to, a_when, a_comes, a_leaves, a_reached, a_onFlow, a_inNode, a_ring, a_variable, a_marked, a_holding, a_ables, a_known, a_stored, a_journal) v) (fun b_kind b_number b_from b_to b_cond b_nodes b_flows b_variables b_on b_in b_times b_stored b_clock b_acts b_reached b2 => h f_dNodes f_dFlows f_nodes f_flows f_clock f_acts a_dKind a_dNumber a_dFrom a_dTo a_dWhen a_kind a_number a_from a_to a_when a_comes a_leaves a_reached a_onFlow a_inNode a_ring a_variable a_marked a_holding a_ables a_known a_stored a_journal b_kind b_number b_from b_to b_cond b_nodes b_flows b_variables b_on b_in b_times b_stored b_clock b_acts b_reached N D c j b1 b2 a3 a4 a5 a6) v a2) u a1
theorem nt_D0 : nt_D nt_0 := ⟨Nat.zero_le _, Nat.zero_le _, fun n h => absurd h (Nat.not_lt_zero _), fun n h => absurd h (Nat.not_lt_zero _), fun n h => absurd h (Nat.not_lt_zero _)⟩
theorem nt_W0 : nt_W nt_0 := ⟨nt_D0, fun n h => absurd h (Nat.not_lt_zero _), fun n h => absurd h (Nat.not_lt_zero _), fun h => absurd h (Nat.lt_irrefl _)⟩
theorem ic_0 {N : NT} {B : Nat} : ic_C N B ds_0 :=
  ⟨fun _ _ _ _ _ => rfl, fun _ _ _ _ => Nat.zero_le _, fun _ _ _ _ h => absurd h (Nat.lt_irrefl 0), fun _ _ _ _ _ _ h => absurd h (Nat.lt_irrefl 0), fun _ _ _ _ _ => (sm_0 10 (fun _ _ => rfl)).symm, fun _ _ => Nat.zero_le _, Nat.zero_le _, Nat.zero_le _⟩
theorem yy_S0 {a b c d e : Nat → Int32} {x y : Int32} (ha : a = fun _ => 0) (hb : b = fun _ => 0) (hc : c = fun _ => 0) (hd : d = fun _ => 0) (he : e = fun _ => 0) (hx : x = 0) (hy : y = 0) : yy_S ds_0 a b c d e x y := by
  subst ha hb hc hd he hx hy
  refine ⟨fun k _ => rfl, fun k _ => ?_, fun k _ => rfl, fun k _ => rfl, fun k _ => rfl, rfl, rfl⟩
  show (0 : Int32) = nI (0 - ds_sm ds_0 k)
  rw [Nat.zero_sub]
  rfl
theorem i_vc0 : wpX_init (fun u => wpY_init (fun v => i_Rel 0 u v)) := by
  refine xl_flush (N := nt_0) (D := nt_0) (c := ds_0) (j := ds_0) ix_D0 ⟨ix_D0, ⟨fun n h => absurd h (Nat.not_lt_zero _), fun n h => absurd h (Nat.not_lt_zero _)⟩, fun n h => absurd h (Nat.not_lt_zero _)⟩ ⟨fun k _ => rfl, fun k _ => rfl, fun k t _ _ => rfl, fun k _ => rfl, fun k _ => rfl, rfl, rfl⟩ (fun i _ => ⟨bm_0 (fun f _ z => absurd z.2 (Nat.lt_irrefl 0)), bm_0 (fun f _ z => absurd z.2 (Nat.lt_irrefl 0)), Or.inl rfl⟩) (xx_all (fun f_dNodes f_dFlows f_nodes f_flows f_clock f_acts a_dKind a_dNumber a_dFrom a_dTo a_dWhen a_kind a_number a_from a_to a_when a_comes a_leaves a_reached a_onFlow a_inNode a_ring a_variable a_marked a_holding a_ables a_known a_stored a_journal R => ?_))
  exact ⟨nt_0, nt_0, ds_0, ds_0, R, ⟨ix_D0, ix_D0, yy_S0 rfl rfl rfl rfl rfl rfl rfl, yy_S0 rfl rfl rfl rfl rfl rfl rfl⟩, nt_W0, nt_D0, ic_0, ic_0⟩
theorem i_vc_deploy {k : Nat} {u : SX} {v : SY} (I : i_Rel k u v) (hk : k + 5 ≤ 2560) : wpX_deploy (fun r u' => wpY_deploy (fun r' v' => r' = r ∧ i_Rel (k + 5) u' v') v) u := by
  refine zz_el (P := fun u v => wpX_deploy (fun r u' => wpY_deploy (fun r' v' => r' = r ∧ i_Rel (k + 5) u' v') v) u) ?_ I
  intro f_dNodes f_dFlows f_nodes f_flows f_clock f_acts a_dKind a_dNumber a_dFrom a_dTo a_dWhen a_kind a_number a_from a_to a_when a_comes a_leaves a_reached a_onFlow a_inNode a_ring a_variable a_marked a_holding a_ables a_known a_stored a_journal b_kind b_number b_from b_to b_cond b_nodes b_flows b_variables b_on b_in b_times b_stored b_clock b_acts b_reached N D c j R S W WD Ic Ij
  exact xl_deploy WD R (fun q u' R' => yl_deploy WD S (fun _ v' S' => ⟨rfl, D, nt_0, ds_0, ds_0, R', S', sd_W WD q, nt_D0, ic_0, ic_0⟩) (fun z => absurd q z)) (fun q u' R' => yl_deploy WD S (fun z => absurd z q) (fun _ v' S' => ⟨rfl, N, nt_0, c, j, R', S', W, nt_D0, ic_up Ic (by omega), ic_up Ij (by omega)⟩))
theorem i_vc_work {k : Nat} {u : SX} {v : SY} (I : i_Rel k u v) (hk : k + 5 ≤ 2560) : wpX_work (fun r u' => wpY_work (fun r' v' => r' = r ∧ i_Rel (k + 5) u' v') v) u := by
  refine zz_el (P := fun u v => wpX_work (fun r u' => wpY_work (fun r' v' => r' = r ∧ i_Rel (k + 5) u' v') v) u) ?_ I
  intro f_dNodes f_dFlows f_nodes f_flows f_clock f_acts a_dKind a_dNumber a_dFrom a_dTo a_dWhen a_kind a_number a_from a_to a_when a_comes a_leaves a_reached a_onFlow a_inNode a_ring a_variable a_marked a_holding a_ables a_known a_stored a_journal b_kind b_number b_from b_to b_cond b_nodes b_flows b_variables b_on b_in b_times b_stored b_clock b_acts b_reached N D c j R S W WD Ic Ij
  obtain ⟨r, c', I', HX, HY⟩ := wk_both (N := N) (D := D) (j := j) W 60 (100 * k) c 0 Ic (by omega) (by omega)
  refine ⟨61, HX _ (fun u' R' => ?_) 61 (by omega) R⟩
  exact HY (fun r' v' => r' = r ∧ i_Rel (k + 5) u' v') (fun v' S' => ⟨rfl, N, D, c', j, R', S', W, WD, ic_up I' (by omega), ic_up Ij (by omega)⟩) 61 _ (fun r' b_kind b_number b_from b_to b_cond b_nodes b_flows b_variables b_on b_in b_times b_stored b_clock b_acts b_reached z => ⟨61, z⟩) (by omega) S
theorem i_vc_flush {k : Nat} {u : SX} {v : SY} (I : i_Rel k u v) (hk : k + 5 ≤ 2560) : wpX_flush (fun u' => wpY_flush (fun v' => i_Rel (k + 5) u' v') v) u := by
  refine zz_el (P := fun u v => wpX_flush (fun u' => wpY_flush (fun v' => i_Rel (k + 5) u' v') v) u) ?_ I
  intro f_dNodes f_dFlows f_nodes f_flows f_clock f_acts a_dKind a_dNumber a_dFrom a_dTo a_dWhen a_kind a_number a_from a_to a_when a_comes a_leaves a_reached a_onFlow a_inNode a_ring a_variable a_marked a_holding a_ables a_known a_stored a_journal b_kind b_number b_from b_to b_cond b_nodes b_flows b_variables b_on b_in b_times b_stored b_clock b_acts b_reached N D c j R S W WD Ic Ij
  exact xl_flush (j := j) R.1 R.2.1 R.2.2.1 R.2.2.2.1 (fun u' R' => yl_flushS S.1 S.2.1 S.2.2.1 (yy_all (fun b_kind b_number b_from b_to b_cond b_nodes b_flows b_variables b_on b_in b_times b_stored b_clock b_acts b_reached S' => ⟨N, D, c, c, R', S', W, WD, ic_up Ic (by omega), ic_up Ic (by omega)⟩)))
theorem i_vc_crash {k : Nat} {u : SX} {v : SY} (I : i_Rel k u v) (hk : k + 5 ≤ 2560) : wpX_crash (fun r u' => wpY_crash (fun r' v' => r' = r ∧ i_Rel (k + 5) u' v') v) u := by
  refine zz_el (P := fun u v => wpX_crash (fun r u' => wpY_crash (fun r' v' => r' = r ∧ i_Rel (k + 5) u' v') v) u) ?_ I
  intro f_dNodes f_dFlows f_nodes f_flows f_clock f_acts a_dKind a_dNumber a_dFrom a_dTo a_dWhen a_kind a_number a_from a_to a_when a_comes a_leaves a_reached a_onFlow a_inNode a_ring a_variable a_marked a_holding a_ables a_known a_stored a_journal b_kind b_number b_from b_to b_cond b_nodes b_flows b_variables b_on b_in b_times b_stored b_clock b_acts b_reached N D c j R S W WD Ic Ij
  exact xl_crash W R Ij (by omega) (fun u' R' => yl_crash W S Ij (by omega) (fun v' S' => ⟨rfl, N, D, j, j, R', S', W, WD, ic_up Ij (by omega), ic_up Ij (by omega)⟩))
theorem i_vc_tokens {k : Nat} {u : SX} {v : SY} (I : i_Rel k u v) (hk : k + 5 ≤ 2560) (v1 : Int32) (v2 : Int32) : wpX_tokens (fun r => wpY_tokens (fun r' => r' = r ∧ i_Rel (k + 5) u v) v v1 v2) u v1 v2 := by
  have I5 := i_up I
  revert I5
  refine zz_el (P := fun u v => i_Rel (k + 5) u v → wpX_tokens (fun r => wpY_tokens (fun r' => r' = r ∧ i_Rel (k + 5) u v) v v1 v2) u v1 v2) ?_ I
  intro f_dNodes f_dFlows f_nodes f_flows f_clock f_acts a_dKind a_dNumber a_dFrom a_dTo a_dWhen a_kind a_number a_from a_to a_when a_comes a_leaves a_reached a_onFlow a_inNode a_ring a_variable a_marked a_holding a_ables a_known a_stored a_journal b_kind b_number b_from b_to b_cond b_nodes b_flows b_variables b_on b_in b_times b_stored b_clock b_acts b_reached N D c j R S W WD Ic Ij I5
  have W20 := W.1.2.1
  have e1 : f_flows = nI (nt_f N) := R.2.1.1.2.1
  have e2 : b_flows 0 = nI (nt_f N) := S.2.1.2.1
  subst e1
  unfold wpX_tokens wpY_tokens
  dsimp only
  rw [e2]
  refine xl_among (n := 3) (by omega) (fun a b => br_f ix_10 (xl_among (n := nt_f N) (by omega) (fun a2 b2 => br_f ix_10 ?_) (fun a2 => br_t rfl ?_))) (fun a => br_t rfl ?_)
  · obtain ⟨i, hi, rfl⟩ := iz_of a b (by omega)
    obtain ⟨f, hf, rfl⟩ := iz_of a2 b2 (by omega)
    have ex : (20 * nI i + nI f : Int32) = nI (20 * i + f) := ix_m 20 i f
    refine And.intro (by rw [ex]; exact vp_in_nI (by omega) (by omega)) (yl_out (n := 3) (by omega) (fun _ _ => br_t rfl (yl_out (n := nt_f N) (by omega) (fun _ _ => br_t rfl (And.intro (by rw [ex]; exact vp_in_nI (by omega) (by omega)) ⟨?_, I5⟩)) (fun z => absurd ⟨a2, b2⟩ z))) (fun z => absurd ⟨a, b⟩ z))
    rw [ex, nI_clamp (by omega), R.2.2.1.1 _ (by omega), S.2.2.1.1 _ (by omega)]
  · exact yl_out (n := 3) (by omega) (fun _ _ => br_t rfl (yl_out (n := nt_f N) (by omega) (fun q1 q2 => absurd ⟨q1, q2⟩ a2) (fun z => br_f ix_10 ⟨rfl, I5⟩))) (fun z => absurd ⟨a, b⟩ z)
  · exact yl_out (n := 3) (by omega) (fun q1 q2 => absurd ⟨q1, q2⟩ a) (fun z => br_f ix_10 ⟨rfl, I5⟩)
end
section
/-! inside, variable, state, able, cancel, tick, complete -/
theorem i_vc_inside {k : Nat} {u : SX} {v : SY} (I : i_Rel k u v) (hk : k + 5 ≤ 2560) (v1 : Int32) (v2 : Int32) : wpX_inside (fun r => wpY_inside (fun r' => r' = r ∧ i_Rel (k + 5) u v) v v1 v2) u v1 v2 := by
  have I5 := i_up I
  revert I5
  refine zz_el (P := fun u v => i_Rel (k + 5) u v → wpX_inside (fun r => wpY_inside (fun r' => r' = r ∧ i_Rel (k + 5) u v) v v1 v2) u v1 v2) ?_ I
  intro f_dNodes f_dFlows f_nodes f_flows f_clock f_acts a_dKind a_dNumber a_dFrom a_dTo a_dWhen a_kind a_number a_from a_to a_when a_comes a_leaves a_reached a_onFlow a_inNode a_ring a_variable a_marked a_holding a_ables a_known a_stored a_journal b_kind b_number b_from b_to b_cond b_nodes b_flows b_variables b_on b_in b_times b_stored b_clock b_acts b_reached N D c j R S W WD Ic Ij I5
  have W12 := W.1.1
  have e1 : f_nodes = nI (nt_n N) := R.2.1.1.1
  have e2 : b_nodes 0 = nI (nt_n N) := S.2.1.1
  subst e1
  unfold wpX_inside wpY_inside
  dsimp only
  rw [e2]
  refine xl_among (n := 3) (by omega) (fun a b => br_f ix_10 (xl_among (n := nt_n N) (by omega) (fun a2 b2 => br_f ix_10 ?_) (fun a2 => br_t rfl ?_))) (fun a => br_t rfl ?_)
  · obtain ⟨i, hi, rfl⟩ := iz_of a b (by omega)
    obtain ⟨n, hn, rfl⟩ := iz_of a2 b2 (by omega)
    have ex : (12 * nI i + nI n : Int32) = nI (12 * i + n) := ix_m 12 i n
    refine And.intro (by rw [ex]; exact vp_in_nI (by omega) (by omega)) (yl_out (n := 3) (by omega) (fun _ _ => br_t rfl (yl_out (n := nt_n N) (by omega) (fun _ _ => br_t rfl (yl_insideOf Ic S hi (by omega) ⟨?_, I5⟩)) (fun z => absurd ⟨a2, b2⟩ z))) (fun z => absurd ⟨a, b⟩ z))
    rw [ex, nI_clamp (by omega), R.2.2.1.2.1 _ (by omega)]
  · exact yl_out (n := 3) (by omega) (fun _ _ => br_t rfl (yl_out (n := nt_n N) (by omega) (fun q1 q2 => absurd ⟨q1, q2⟩ a2) (fun z => br_f ix_10 ⟨rfl, I5⟩))) (fun z => absurd ⟨a, b⟩ z)
  · exact yl_out (n := 3) (by omega) (fun q1 q2 => absurd ⟨q1, q2⟩ a) (fun z => br_f ix_10 ⟨rfl, I5⟩)
theorem i_vc_variable {k : Nat} {u : SX} {v : SY} (I : i_Rel k u v) (hk : k + 5 ≤ 2560) (v1 : Int32) (v2 : Int32) : wpX_variable (fun r => wpY_variable (fun r' => r' = r ∧ i_Rel (k + 5) u v) v v1 v2) u v1 v2 := by
  have I5 := i_up I
  revert I5
  refine zz_el (P := fun u v => i_Rel (k + 5) u v → wpX_variable (fun r => wpY_variable (fun r' => r' = r ∧ i_Rel (k + 5) u v) v v1 v2) u v1 v2) ?_ I
  intro f_dNodes f_dFlows f_nodes f_flows f_clock f_acts a_dKind a_dNumber a_dFrom a_dTo a_dWhen a_kind a_number a_from a_to a_when a_comes a_leaves a_reached a_onFlow a_inNode a_ring a_variable a_marked a_holding a_ables a_known a_stored a_journal b_kind b_number b_from b_to b_cond b_nodes b_flows b_variables b_on b_in b_times b_stored b_clock b_acts b_reached N D c j R S W WD Ic Ij I5
  unfold wpX_variable wpY_variable
  dsimp only
  refine xl_among (n := 3) (by omega) (fun a b => br_f ix_10 (xl_among (n := 3) (by omega) (fun a2 b2 => br_f ix_10 ?_) (fun a2 => br_t rfl ?_))) (fun a => br_t rfl ?_)
  · obtain ⟨i, hi, rfl⟩ := iz_of a b (by omega)
    obtain ⟨n, hn, rfl⟩ := iz_of a2 b2 (by omega)
    have ex : (3 * nI i + nI n : Int32) = nI (3 * i + n) := ix_m 3 i n
    refine And.intro (by rw [ex]; exact vp_in_nI (by omega) (by omega)) (yl_out (n := 3) (by omega) (fun _ _ => br_t rfl (yl_out (n := 3) (by omega) (fun _ _ => br_t rfl (And.intro (by rw [ex]; exact vp_in_nI (by omega) (by omega)) ⟨?_, I5⟩)) (fun z => absurd ⟨a2, b2⟩ z))) (fun z => absurd ⟨a, b⟩ z))
    rw [ex, nI_clamp (by omega), R.2.2.1.2.2.2.1 _ (by omega), S.2.2.1.2.2.2.1 _ (by omega)]
  · exact yl_out (n := 3) (by omega) (fun _ _ => br_t rfl (yl_out (n := 3) (by omega) (fun q1 q2 => absurd ⟨q1, q2⟩ a2) (fun z => br_f ix_10 ⟨rfl, I5⟩))) (fun z => absurd ⟨a, b⟩ z)
  · exact yl_out (n := 3) (by omega) (fun q1 q2 => absurd ⟨q1, q2⟩ a) (fun z => br_f ix_10 ⟨rfl, I5⟩)
theorem i_vc_state {k : Nat} {u : SX} {v : SY} (I : i_Rel k u v) (hk : k + 5 ≤ 2560) (v1 : Int32) : wpX_state (fun r => wpY_state (fun r' => r' = r ∧ i_Rel (k + 5) u v) v v1) u v1 := by
  have I5 := i_up I
  revert I5
  refine zz_el (P := fun u v => i_Rel (k + 5) u v → wpX_state (fun r => wpY_state (fun r' => r' = r ∧ i_Rel (k + 5) u v) v v1) u v1) ?_ I
  intro f_dNodes f_dFlows f_nodes f_flows f_clock f_acts a_dKind a_dNumber a_dFrom a_dTo a_dWhen a_kind a_number a_from a_to a_when a_comes a_leaves a_reached a_onFlow a_inNode a_ring a_variable a_marked a_holding a_ables a_known a_stored a_journal b_kind b_number b_from b_to b_cond b_nodes b_flows b_variables b_on b_in b_times b_stored b_clock b_acts b_reached N D c j R S W WD Ic Ij I5
  have st : ∀ m, m < 3 → v1 = nI (m + 1) → (vp_in (v1 - 1) 3 ∧ vp_in (v1 - 1) 6 ∧ b_stored (v1 - 1).toNatClampNeg = a_stored (v1 - 1).toNatClampNeg) := by
    intro m hm e
    have e2 : v1 - 1 = nI m := by rw [e]; exact nI_pred m
    rw [e2, nI_clamp (by omega), R.2.2.1.2.2.2.2.1 m hm, S.2.2.1.2.2.2.2.1 m hm]
    exact ⟨vp_in_nI hm (by omega), vp_in_nI (by omega) (by omega), rfl⟩
  by_cases h0 : v1 < 0
  · exact br_t h0 (br_t h0 ⟨rfl, I5⟩)
  by_cases h6 : 6 < v1
  · exact br_f h0 (br_t h6 (br_f h0 (br_t h6 ⟨rfl, I5⟩)))
  by_cases e0 : v1 = 0
  · refine br_f h0 (br_f h6 (br_t e0 (br_f h0 (br_f h6 (br_t e0 ⟨?_, I5⟩)))))
    rw [R.2.2.1.2.2.2.2.2.1, S.2.2.1.2.2.2.2.2.1]
  by_cases e1 : v1 = 1
  · obtain ⟨a, b, d⟩ := st 0 (by omega) e1
    exact br_f h0 (br_f h6 (br_f e0 (br_t e1 (And.intro a (br_f h0 (br_f h6 (br_f e0 (br_t e1 (And.intro b ⟨d, I5⟩)))))))))
  by_cases e2 : v1 = 2
  · obtain ⟨a, b, d⟩ := st 1 (by omega) e2
    exact br_f h0 (br_f h6 (br_f e0 (br_f e1 (br_t e2 (And.intro a (br_f h0 (br_f h6 (br_f e0 (br_f e1 (br_t e2 (And.intro b ⟨d, I5⟩)))))))))))
  by_cases e3 : v1 = 3
  · obtain ⟨a, b, d⟩ := st 2 (by omega) e3
    exact br_f h0 (br_f h6 (br_f e0 (br_f e1 (br_f e2 (br_t e3 (And.intro a (br_f h0 (br_f h6 (br_f e0 (br_f e1 (br_f e2 (br_t e3 (And.intro b ⟨d, I5⟩)))))))))))))
  by_cases e4 : v1 = 4
  · exact br_f h0 (br_f h6 (br_f e0 (br_f e1 (br_f e2 (br_f e3 (br_t e4 ⟨4, xl_st62 R (br_f h0 (br_f h6 (br_f e0 (br_f e1 (br_f e2 (br_f e3 (br_t e4 (yl_living W Ic (by omega) S ⟨rfl, I5⟩)))))))) 3 0 (by omega)⟩))))))
  by_cases e5 : v1 = 5
  · refine br_f h0 (br_f h6 (br_f e0 (br_f e1 (br_f e2 (br_f e3 (br_f e4 (br_t e5 (br_f h0 (br_f h6 (br_f e0 (br_f e1 (br_f e2 (br_f e3 (br_f e4 (br_t e5 ⟨?_, I5⟩)))))))))))))))
    rw [R.2.2.1.2.2.2.2.2.2, S.2.2.1.2.2.2.2.2.2]
  by_cases e6 : v1 = 6
  · refine br_f h0 (br_f h6 (br_f e0 (br_f e1 (br_f e2 (br_f e3 (br_f e4 (br_f e5 (br_t e6 (br_f h0 (br_f h6 (br_f e0 (br_f e1 (br_f e2 (br_f e3 (br_f e4 (br_f e5 (br_t e6 ⟨?_, I5⟩)))))))))))))))))
    rw [R.2.1.1.2.1, S.2.1.2.1]
  · exact br_f h0 (br_f h6 (br_f e0 (br_f e1 (br_f e2 (br_f e3 (br_f e4 (br_f e5 (br_f e6 trivial))))))))
theorem i_vc_able {k : Nat} {u : SX} {v : SY} (I : i_Rel k u v) (hk : k + 5 ≤ 2560) (v1 : Int32) (v2 : Int32) : wpX_able (fun r u' => wpY_able (fun r' v' => r' = r ∧ i_Rel (k + 5) u' v') v v1 v2) u v1 v2 := by
  have I5 := i_up I
  revert I5
  refine zz_el (P := fun u v => i_Rel (k + 5) u v → wpX_able (fun r u' => wpY_able (fun r' v' => r' = r ∧ i_Rel (k + 5) u' v') v v1 v2) u v1 v2) ?_ I
  intro f_dNodes f_dFlows f_nodes f_flows f_clock f_acts a_dKind a_dNumber a_dFrom a_dTo a_dWhen a_kind a_number a_from a_to a_when a_comes a_leaves a_reached a_onFlow a_inNode a_ring a_variable a_marked a_holding a_ables a_known a_stored a_journal b_kind b_number b_from b_to b_cond b_nodes b_flows b_variables b_on b_in b_times b_stored b_clock b_acts b_reached N D c j R S W WD Ic Ij I5
  have W12 := W.1.1
  have e1 : f_nodes = nI (nt_n N) := R.2.1.1.1
  have e2 : b_nodes 0 = nI (nt_n N) := S.2.1.1
  subst e1
  unfold wpX_able wpY_able
  dsimp only
  rw [e2]
  refine xl_among (n := 3) (by omega) (fun a b => br_f ix_10 (xl_among (n := nt_n N) (by omega) (fun a2 b2 => br_f ix_10 ?_) (fun a2 => br_t rfl ?_))) (fun a => br_t rfl ?_)
  · obtain ⟨i, hi, rfl⟩ := iz_of a b (by omega)
    obtain ⟨n, hn, rfl⟩ := iz_of a2 b2 (by omega)
    refine xl_ableNodes W Ic R hi (fun r => xx_all (fun f_dNodes f_dFlows f_nodes f_flows f_clock f_acts a_dKind a_dNumber a_dFrom a_dTo a_dWhen a_kind a_number a_from a_to a_when a_comes a_leaves a_reached a_onFlow a_inNode a_ring a_variable a_marked a_holding a_ables a_known a_stored a_journal hb R' _ => iz_if (bm_bit1 hb (by omega)) (fun q => ?_) (fun q => ?_)))
    · exact yl_out (n := 3) (by omega) (fun _ _ => br_t rfl (yl_out (n := nt_n N) (by omega) (fun _ _ => br_t rfl (yl_can W Ic (by omega) S hi hn (fun z r' => br_f ix_10 ⟨rfl, N, D, c, j, R', S, W, WD, ic_up Ic (by omega), ic_up Ij (by omega)⟩) (fun z => absurd q.2 z))) (fun z => absurd ⟨a2, b2⟩ z))) (fun z => absurd ⟨a, b⟩ z)
    · exact yl_out (n := 3) (by omega) (fun _ _ => br_t rfl (yl_out (n := nt_n N) (by omega) (fun _ _ => br_t rfl (yl_can W Ic (by omega) S hi hn (fun z => absurd ⟨hn, z⟩ q) (fun z r' => br_t rfl ⟨rfl, N, D, c, j, R', S, W, WD, ic_up Ic (by omega), ic_up Ij (by omega)⟩))) (fun z => absurd ⟨a2, b2⟩ z))) (fun z => absurd ⟨a, b⟩ z)
  · exact yl_out (n := 3) (by omega) (fun _ _ => br_t rfl (yl_out (n := nt_n N) (by omega) (fun q1 q2 => absurd ⟨q1, q2⟩ a2) (fun z => br_f ix_10 ⟨rfl, I5⟩))) (fun z => absurd ⟨a, b⟩ z)
  · exact yl_out (n := 3) (by omega) (fun q1 q2 => absurd ⟨q1, q2⟩ a) (fun z => br_f ix_10 ⟨rfl, I5⟩)
theorem i_vc_cancel {k : Nat} {u : SX} {v : SY} (I : i_Rel k u v) (hk : k + 5 ≤ 2560) (v1 : Int32) : wpX_cancel (fun r u' => wpY_cancel (fun r' v' => r' = r ∧ i_Rel (k + 5) u' v') v v1) u v1 := by
  have I5 := i_up I
  revert I5
  refine zz_el (P := fun u v => i_Rel (k + 5) u v → wpX_cancel (fun r u' => wpY_cancel (fun r' v' => r' = r ∧ i_Rel (k + 5) u' v') v v1) u v1) ?_ I
  intro f_dNodes f_dFlows f_nodes f_flows f_clock f_acts a_dKind a_dNumber a_dFrom a_dTo a_dWhen a_kind a_number a_from a_to a_when a_comes a_leaves a_reached a_onFlow a_inNode a_ring a_variable a_marked a_holding a_ables a_known a_stored a_journal b_kind b_number b_from b_to b_cond b_nodes b_flows b_variables b_on b_in b_times b_stored b_clock b_acts b_reached N D c j R S W WD Ic Ij I5
  unfold wpX_cancel wpY_cancel
  dsimp only
  refine xl_among (n := 3) (by omega) (fun a b => br_f ix_10 ?_) (fun a => br_t rfl ?_)
  · obtain ⟨i, hi, rfl⟩ := iz_of a b (by omega)
    refine xl_isAlive R hi (fun q => br_f ix_10 (xl_empty W.1 (xx_Rw hi R) hi (xx_all (fun f_dNodes f_dFlows f_nodes f_flows f_clock f_acts a_dKind a_dNumber a_dFrom a_dTo a_dWhen a_kind a_number a_from a_to a_when a_comes a_leaves a_reached a_onFlow a_inNode a_ring a_variable a_marked a_holding a_ables a_known a_stored a_journal R' => ?_)))) (fun q => br_t rfl ?_)
    · exact yl_out (n := 3) (by omega) (fun _ _ => br_t rfl (yl_alive W Ic (by omega) S hi (fun _ => br_f ix_10 (yl_empty S hi (yy_all (fun b_kind b_number b_from b_to b_cond b_nodes b_flows b_variables b_on b_in b_times b_stored b_clock b_acts b_reached S' => ⟨rfl, N, D, dc_emp c i, j, R', S', W, WD, ic_emp W.1 (ic_up Ic (by omega)), ic_up Ij (by omega)⟩)))) (fun z => absurd q z))) (fun z => absurd ⟨a, b⟩ z)
    · exact yl_out (n := 3) (by omega) (fun _ _ => br_t rfl (yl_alive W Ic (by omega) S hi (fun z => absurd z q) (fun _ => br_t rfl ⟨rfl, I5⟩))) (fun z => absurd ⟨a, b⟩ z)
  · exact yl_out (n := 3) (by omega) (fun q1 q2 => absurd ⟨q1, q2⟩ a) (fun z => br_f ix_10 ⟨rfl, I5⟩)
theorem xl_tk {post : Int32 → SX → Prop} {N D : NT} {B d : Nat} {c j : DS} {f_dNodes f_dFlows f_nodes f_flows f_clock f_acts : Int32} {a_dKind a_dNumber a_dFrom a_dTo a_dWhen a_kind a_number a_from a_to a_when a_comes a_leaves a_reached a_onFlow a_inNode a_ring a_variable a_marked a_holding a_ables a_known a_stored a_journal : Nat → Int32} (W : nt_W N) (I : ic_C N B c) (hB : B + d < 2 ^ 30) (R : xx_R N D c j (f_dNodes, f_dFlows, f_nodes, f_flows, f_clock, f_acts, a_dKind, a_dNumber, a_dFrom, a_dTo, a_dWhen, a_kind, a_number, a_from, a_to, a_when, a_comes, a_leaves, a_reached, a_onFlow, a_inNode, a_ring, a_variable, a_marked, a_holding, a_ables, a_known, a_stored, a_journal)) (h : ∀ u', xx_R N D (tk_C N d c 36) j u' → post (nI (tk_G c d)) u') : ∃ n, wX_tick_24 post (nI d) n 0 0 f_dNodes f_dFlows f_nodes f_flows f_clock f_acts a_dKind a_dNumber a_dFrom a_dTo a_dWhen a_kind a_number a_from a_to a_when a_comes a_leaves a_reached a_onFlow a_inNode a_ring a_variable a_marked a_holding a_ables a_known a_stored a_journal := by
  have T := xl_t24 (d := d) W I hB h d 0 (by omega) (xx_RE W.1 (tk_zero W.1 I) R)
  rw [tk_G0 I] at T
  exact ⟨d + 1, T⟩
theorem i_vc_tick {k : Nat} {u : SX} {v : SY} (I : i_Rel k u v) (hk : k + 5 ≤ 2560) (v1 : Int32) : wpX_tick (fun r u' => wpY_tick (fun r' v' => r' = r ∧ i_Rel (k + 5) u' v') v v1) u v1 := by
  have I5 := i_up I
  revert I5
  refine zz_el (P := fun u v => i_Rel (k + 5) u v → wpX_tick (fun r u' => wpY_tick (fun r' v' => r' = r ∧ i_Rel (k + 5) u' v') v v1) u v1) ?_ I
  intro f_dNodes f_dFlows f_nodes f_flows f_clock f_acts a_dKind a_dNumber a_dFrom a_dTo a_dWhen a_kind a_number a_from a_to a_when a_comes a_leaves a_reached a_onFlow a_inNode a_ring a_variable a_marked a_holding a_ables a_known a_stored a_journal b_kind b_number b_from b_to b_cond b_nodes b_flows b_variables b_on b_in b_times b_stored b_clock b_acts b_reached N D c j R S W WD Ic Ij I5
  have ckb := Ic.2.2.2.2.2.2.1
  have e1 : f_clock = nI (ds_ck c) := R.2.2.1.2.2.2.2.2.1
  have e2 : b_clock 0 = nI (ds_ck c) := S.2.2.1.2.2.2.2.2.1
  unfold wpX_tick wpY_tick
  dsimp only
  refine xl_among (n := 21) (by omega) (fun a b => br_f ix_10 (pk_le (ds_ck c) 1000000000 (fun _ => ?_) (fun z => absurd z (by omega)) e1 rfl)) (fun a => br_t rfl ?_)
  · obtain ⟨d, hd, rfl⟩ := iz_of a b (by omega)
    have g0 : tk_G c 0 = 0 := tk_G0 Ic
    refine xl_tk (d := d) W Ic (by omega) R ?_
    intro u' R'
    refine yl_out (n := 21) (by omega) (fun _ _ => br_t rfl (pk_le (ds_ck c) 1000000000 (fun _ => nm_r (e' := upd b_clock 0 (nI (ds_ck c + d))) (by rw [e2, nI_add]) ⟨37, ?_⟩) (fun z => absurd z (by omega)) e2 rfl)) (fun z => absurd ⟨a, b⟩ z)
    have fin : ∀ v', yy_R N D (tk_C N d c 36) j v' → nI (tk_G c d) = nI (tk_G c d) ∧ i_Rel (k + 5) u' v' := fun v' S' => ⟨rfl, N, D, tk_C N d c 36, j, R', S', W, WD, ic_up (ic_tkd W Ic d) (by omega), ic_up Ij (by omega)⟩
    by_cases d0 : 1 ≤ d
    · refine yl_t36 W Ic (by omega) d0 hd fin 36 0 (by omega) ?_
      refine yy_RE (c := (ds_on c, ds_in c, ds_tm c, ds_va c, ds_st c, ds_ck c + d, ds_ac c)) ⟨fun q _ => ?_, fun q _ => ?_, fun q _ => ?_, fun _ _ => rfl, fun _ _ => rfl, rfl, rfl⟩ ⟨S.1, S.2.1, ⟨S.2.2.1.1, S.2.2.1.2.1, S.2.2.1.2.2.1, S.2.2.1.2.2.2.1, S.2.2.1.2.2.2.2.1, pk_us, S.2.2.1.2.2.2.2.2.2⟩, S.2.2.2⟩
      · rw [tk_on, if_neg (by omega)]; rfl
      · rw [tk_in, if_neg (by omega)]; rfl
      · rw [tk_tm, if_neg (by omega)]; rfl
    · have : d = 0 := by omega
      subst this
      rw [wY_tick_36]
      refine br_f (by decide) (br_t (by decide) ?_)
      have S0 : yy_R N D c j (b_kind, b_number, b_from, b_to, b_cond, b_nodes, b_flows, b_variables, b_on, b_in, b_times, b_stored, upd b_clock 0 (nI (ds_ck c)), b_acts, b_reached) := ⟨S.1, S.2.1, ⟨S.2.2.1.1, S.2.2.1.2.1, S.2.2.1.2.2.1, S.2.2.1.2.2.2.1, S.2.2.1.2.2.2.2.1, pk_us, S.2.2.1.2.2.2.2.2.2⟩, S.2.2.2⟩
      exact ⟨by rw [g0]; rfl, (fin _ (yy_RE (tk_zero W.1 Ic) S0)).2⟩
  · exact yl_out (n := 21) (by omega) (fun q1 q2 => absurd ⟨q1, q2⟩ a) (fun z => br_f ix_10 ⟨rfl, I5⟩)
end
section
/-! complete, begin -/
theorem ic_va {N : NT} {B : Nat} {c : DS} {g : Nat → Int32} (I : ic_C N B c) : ic_C N B (dc_va c g) := I
theorem xx_va {N D : NT} {c j : DS} {q : Nat} {x : Int32} {f_dNodes f_dFlows f_nodes f_flows f_clock f_acts : Int32} {a_dKind a_dNumber a_dFrom a_dTo a_dWhen a_kind a_number a_from a_to a_when a_comes a_leaves a_reached a_onFlow a_inNode a_ring a_variable a_marked a_holding a_ables a_known a_stored a_journal : Nat → Int32} (R : xx_R N D c j (f_dNodes, f_dFlows, f_nodes, f_flows, f_clock, f_acts, a_dKind, a_dNumber, a_dFrom, a_dTo, a_dWhen, a_kind, a_number, a_from, a_to, a_when, a_comes, a_leaves, a_reached, a_onFlow, a_inNode, a_ring, a_variable, a_marked, a_holding, a_ables, a_known, a_stored, a_journal)) : xx_R N D (dc_va c (upd (ds_va c) q x)) j (f_dNodes, f_dFlows, f_nodes, f_flows, f_clock, f_acts, a_dKind, a_dNumber, a_dFrom, a_dTo, a_dWhen, a_kind, a_number, a_from, a_to, a_when, a_comes, a_leaves, a_reached, a_onFlow, a_inNode, a_ring, upd a_variable q x, a_marked, a_holding, a_ables, a_known, a_stored, a_journal) := by
  obtain ⟨RD, RN, RS, RM, RJ⟩ := R
  refine ⟨RD, RN, ⟨RS.1, RS.2.1, RS.2.2.1, fun k hk => ?_, RS.2.2.2.2⟩, RM, RJ⟩
  show upd a_variable q x k = upd (ds_va c) q x k
  by_cases e : k = q
  · subst e; rw [pk_us, pk_us]
  · rw [pk_un e, pk_un e]; exact RS.2.2.2.1 k hk
theorem yy_vaR {N D : NT} {c j : DS} {q : Nat} {x : Int32} {b_kind b_number b_from b_to b_cond b_nodes b_flows b_variables b_on b_in b_times b_stored b_clock b_acts b_reached : Nat → Int32} (hq : q < 9) (S : yy_R N D c j (b_kind, b_number, b_from, b_to, b_cond, b_nodes, b_flows, b_variables, b_on, b_in, b_times, b_stored, b_clock, b_acts, b_reached)) : yy_R N D (dc_va c (upd (ds_va c) q x)) j (b_kind, b_number, b_from, b_to, b_cond, b_nodes, b_flows, upd b_variables q x, b_on, b_in, b_times, b_stored, b_clock, b_acts, b_reached) := by
  obtain ⟨RD, RN, RS, RJ⟩ := S
  refine ⟨RD, RN, ⟨RS.1, RS.2.1, RS.2.2.1, fun k hk => ?_, RS.2.2.2.2⟩, yy_va RJ (fun k hk => pk_un (by omega))⟩
  show upd b_variables q x k = upd (ds_va c) q x k
  by_cases e : k = q
  · subst e; rw [pk_us, pk_us]
  · rw [pk_un e, pk_un e]; exact RS.2.2.2.1 k hk
theorem yl_co75 {post : Int32 → SY → Prop} {N D : NT} {B : Nat} {c j : DS} {i n : Nat} {b_kind b_number b_from b_to b_cond b_nodes b_flows b_variables b_on b_in b_times b_stored b_clock b_acts b_reached : Nat → Int32} (W : nt_W N) (I : ic_C N B c) (S : yy_R N D c j (b_kind, b_number, b_from, b_to, b_cond, b_nodes, b_flows, b_variables, b_on, b_in, b_times, b_stored, b_clock, b_acts, b_reached)) (hi : i < 3) (hn : n < nt_n N) (hk : nt_ki N n = 2) (h0 : 0 < ds_in c (12 * i + n)) (h : ∀ v', yy_R N D (dc_gon N c i n) j v' → post 0 v') : wY_complete_75 post (nI i) (nI n) b_kind b_number b_from b_to b_cond b_nodes b_flows b_variables b_on b_in b_times b_stored b_clock b_acts b_reached := by
  have W12 := W.1.1
  have ex : (12 * nI i + nI n : Int32) = nI (12 * i + n) := ix_m 12 i n
  have v : vp_in (12 * nI i + nI n) 72 := by rw [ex]; exact vp_in_nI (by omega) (by omega)
  have sm0 : ds_sm c (12 * i + n) = 0 := ic_sm0 I hi (by omega) (fun z => by omega)
  refine And.intro v (And.intro v (nm_r (e' := upd b_in (12 * i + n) (nI (ds_in c (12 * i + n) - 1))) ?_ (yl_pass (c := dc_out c i n) (m := 1) W.1 ⟨S.1, S.2.1, yy_out S.2.2.1 sm0, yy_in S.2.2.2 (fun k hk => pk_un (by omega))⟩ hi (by omega) (W.2.2.1 n hn (by omega) (by omega)) rfl (yy_all (fun b_kind b_number b_from b_to b_cond b_nodes b_flows b_variables b_on b_in b_times b_stored b_clock b_acts b_reached R => h _ R)))))
  rw [ex, nI_clamp (by omega), S.2.2.1.2.1 _ (by omega), sm0]
  exact congrArg _ (pk_sub (b := 1) (by omega))
theorem i_vc_complete {k : Nat} {u : SX} {v : SY} (I : i_Rel k u v) (hk : k + 5 ≤ 2560) (v1 : Int32) (v2 : Int32) (v3 : Int32) (v4 : Int32) : wpX_complete (fun r u' => wpY_complete (fun r' v' => r' = r ∧ i_Rel (k + 5) u' v') v v1 v2 v3 v4) u v1 v2 v3 v4 := by
  have I5 := i_up I
  revert I5
  refine zz_el (P := fun u v => i_Rel (k + 5) u v → wpX_complete (fun r u' => wpY_complete (fun r' v' => r' = r ∧ i_Rel (k + 5) u' v') v v1 v2 v3 v4) u v1 v2 v3 v4) ?_ I
  intro f_dNodes f_dFlows f_nodes f_flows f_clock f_acts a_dKind a_dNumber a_dFrom a_dTo a_dWhen a_kind a_number a_from a_to a_when a_comes a_leaves a_reached a_onFlow a_inNode a_ring a_variable a_marked a_holding a_ables a_known a_stored a_journal b_kind b_number b_from b_to b_cond b_nodes b_flows b_variables b_on b_in b_times b_stored b_clock b_acts b_reached N D c j R S W WD Ic Ij I5
  have W12 := W.1.1
  have e1 : f_nodes = nI (nt_n N) := R.2.1.1.1
  have e2 : b_nodes 0 = nI (nt_n N) := S.2.1.1
  subst e1
  unfold wpX_complete wpY_complete
  dsimp only
  rw [e2]
  refine xl_among (n := 3) (by omega) (fun a b => br_f ix_10 (xl_among (n := nt_n N) (by omega) (fun a2 b2 => br_f ix_10 ?_) (fun a2 => br_t rfl ?_))) (fun a => br_t rfl ?_)
  · obtain ⟨i, hi, rfl⟩ := iz_of a b (by omega)
    obtain ⟨n, hn, rfl⟩ := iz_of a2 b2 (by omega)
    have kn : (nI n).toNatClampNeg = n := nI_clamp (by omega)
    have kb := (W.1.2.2.2.1 n hn).1
    have ek : a_kind (nI n).toNatClampNeg = nI (nt_ki N n) := by rw [kn]; exact R.2.1.1.2.2.1 n hn
    have eky : b_kind (nI n).toNatClampNeg = nI (nt_ki N n) := by rw [kn]; exact S.2.1.2.2.1 n hn
    have ex : (12 * nI i + nI n : Int32) = nI (12 * i + n) := ix_m 12 i n
    have vx : vp_in (12 * nI i + nI n) 36 := by rw [ex]; exact vp_in_nI (by omega) (by omega)
    have vy : vp_in (12 * nI i + nI n) 72 := by rw [ex]; exact vp_in_nI (by omega) (by omega)
    have ei : a_inNode (12 * nI i + nI n).toNatClampNeg = nI (ds_in c (12 * i + n)) := by rw [ex, nI_clamp (by omega)]; exact R.2.2.1.2.1 _ (by omega)
    have ib := ic_in W Ic hi (show n < 12 by omega)
    refine And.intro (vp_in_nI (by omega) (by omega)) (pk_eq (nt_ki N n) 2 (fun k2 => And.intro vx (pk_eq (ds_in c (12 * i + n)) 0 (fun z => ?_) (fun z => ?_) ei rfl)) (fun k2 => ?_) ek rfl)
    · have eiy : b_in (12 * nI i + nI n).toNatClampNeg = nI 0 := by
        rw [ex, nI_clamp (by omega), S.2.2.1.2.1 _ (by omega), z, Nat.zero_sub]
      exact yl_out (n := 3) (by omega) (fun _ _ => br_t rfl (yl_out (n := nt_n N) (by omega) (fun _ _ => br_t rfl (br_c (fun _ => ⟨rfl, I5⟩) (fun _ => br_c (fun _ => And.intro (vp_in_nI (by omega) (by omega)) (pk_eq (nt_ki N n) 2 (fun _ => And.intro vy (br_t eiy ⟨rfl, I5⟩)) (fun w => absurd k2 w) eky rfl)) (fun _ => ⟨rfl, I5⟩)))) (fun z => absurd ⟨a2, b2⟩ z))) (fun z => absurd ⟨a, b⟩ z)
    · have sm0 : ds_sm c (12 * i + n) = 0 := ic_sm0 Ic hi (by omega) (fun z => by omega)
      have eiy : b_in (12 * nI i + nI n).toNatClampNeg = nI (ds_in c (12 * i + n)) := by
        rw [ex, nI_clamp (by omega), S.2.2.1.2.1 _ (by omega), sm0]
        rfl
      have hl := W.2.2.1 n hn (by omega) (by omega)
      refine br_c (fun q => ?_) (fun q => br_c (fun q2 => br_c (fun q3 => ?_) (fun q3 => ?_)) (fun q2 => ?_))
      · exact yl_out (n := 3) (by omega) (fun _ _ => br_t rfl (yl_out (n := nt_n N) (by omega) (fun _ _ => br_t rfl (br_t q ⟨rfl, I5⟩)) (fun z => absurd ⟨a2, b2⟩ z))) (fun z => absurd ⟨a, b⟩ z)
      · refine xl_goOn W R hi hn hl (by omega) (by omega) (xx_all (fun f_dNodes f_dFlows f_nodes f_flows f_clock f_acts a_dKind a_dNumber a_dFrom a_dTo a_dWhen a_kind a_number a_from a_to a_when a_comes a_leaves a_reached a_onFlow a_inNode a_ring a_variable a_marked a_holding a_ables a_known a_stored a_journal R' => ?_))
        exact yl_out (n := 3) (by omega) (fun _ _ => br_t rfl (yl_out (n := nt_n N) (by omega) (fun _ _ => br_t rfl (br_f q (br_t q2 (And.intro (vp_in_nI (by omega) (by omega)) (pk_eq (nt_ki N n) 2 (fun _ => And.intro vy (pk_eq (ds_in c (12 * i + n)) 0 (fun w => absurd w z) (fun _ => br_t q3 (yl_co75 W Ic S hi hn k2 (by omega) (fun v' S' => ⟨rfl, N, D, dc_gon N c i n, j, R', S', W, WD, ic_gon W hi hn (Or.inl k2) (by omega) (ic_up Ic (by omega)), ic_up Ij (by omega)⟩))) eiy rfl)) (fun w => absurd k2 w) eky rfl))))) (fun z => absurd ⟨a2, b2⟩ z))) (fun z => absurd ⟨a, b⟩ z)
      · have q4 : ¬ v3.toInt < ((0 : Nat) : Int) := fun w => q3 ((iz_lt2 (n := 0) (by omega)).mpr w)
        have q5 : v3.toInt ≤ ((2 : Nat) : Int) := (iz_le2 (n := 2) (by omega)).mp q2
        obtain ⟨w, hw, rfl⟩ := iz_of (x := v3) (n := 3) (by omega) (by omega) (by omega)
        have e3 : (3 * nI i + nI w : Int32) = nI (3 * i + w) := ix_m 3 i w
        refine And.intro (by rw [e3]; exact vp_in_nI (by omega) (by omega)) (nm_r (e' := upd a_variable (3 * i + w) v4) (by rw [e3, nI_clamp (by omega)]) ?_)
        refine xl_goOn (c := dc_va c (upd (ds_va c) (3 * i + w) v4)) W (xx_va R) hi hn hl (by show 0 < ds_in c (12 * i + n); omega) (by show ds_in c (12 * i + n) < _; omega) (xx_all (fun f_dNodes f_dFlows f_nodes f_flows f_clock f_acts a_dKind a_dNumber a_dFrom a_dTo a_dWhen a_kind a_number a_from a_to a_when a_comes a_leaves a_reached a_onFlow a_inNode a_ring a_variable a_marked a_holding a_ables a_known a_stored a_journal R' => ?_))
        exact yl_out (n := 3) (by omega) (fun _ _ => br_t rfl (yl_out (n := nt_n N) (by omega) (fun _ _ => br_t rfl (br_f q (br_t q2 (And.intro (vp_in_nI (by omega) (by omega)) (pk_eq (nt_ki N n) 2 (fun _ => And.intro vy (pk_eq (ds_in c (12 * i + n)) 0 (fun w => absurd w z) (fun _ => br_f q3 (And.intro (by rw [e3]; exact vp_in_nI (by omega) (by omega)) (nm_r (e' := upd b_variables (3 * i + w) v4) (by rw [e3, nI_clamp (by omega)]) (yl_co75 W (ic_va Ic) (yy_vaR (by omega) S) hi hn k2 (by show 0 < ds_in c (12 * i + n); omega) (fun v' S' => ⟨rfl, N, D, _, j, R', S', W, WD, ic_gon W hi hn (Or.inl k2) (by show 0 < ds_in c (12 * i + n); omega) (ic_va (ic_up Ic (by omega))), ic_up Ij (by omega)⟩))))) eiy rfl)) (fun w => absurd k2 w) eky rfl))))) (fun z => absurd ⟨a2, b2⟩ z))) (fun z => absurd ⟨a, b⟩ z)
      · exact yl_out (n := 3) (by omega) (fun _ _ => br_t rfl (yl_out (n := nt_n N) (by omega) (fun _ _ => br_t rfl (br_f q (br_f q2 ⟨rfl, I5⟩))) (fun z => absurd ⟨a2, b2⟩ z))) (fun z => absurd ⟨a, b⟩ z)
    · exact yl_out (n := 3) (by omega) (fun _ _ => br_t rfl (yl_out (n := nt_n N) (by omega) (fun _ _ => br_t rfl (br_c (fun _ => ⟨rfl, I5⟩) (fun _ => br_c (fun _ => And.intro (vp_in_nI (by omega) (by omega)) (pk_eq (nt_ki N n) 2 (fun w => absurd w k2) (fun _ => ⟨rfl, I5⟩) eky rfl)) (fun _ => ⟨rfl, I5⟩)))) (fun z => absurd ⟨a2, b2⟩ z))) (fun z => absurd ⟨a, b⟩ z)
  · exact yl_out (n := 3) (by omega) (fun _ _ => br_t rfl (yl_out (n := nt_n N) (by omega) (fun q1 q2 => absurd ⟨q1, q2⟩ a2) (fun z => br_f ix_10 ⟨rfl, I5⟩))) (fun z => absurd ⟨a, b⟩ z)
  · exact yl_out (n := 3) (by omega) (fun q1 q2 => absurd ⟨q1, q2⟩ a) (fun z => br_f ix_10 ⟨rfl, I5⟩)
/-! begin -/
theorem em_id {N : NT} {B : Nat} {c : DS} {i : Nat} (I : ic_C N B c) (hi : i < 3) (h : ¬ ds_Al c i) : dc_emp c i = c := by
  have o : ∀ f, f < 20 → ds_on c (20 * i + f) = 0 := fun f hf => by
    by_cases e : 0 < ds_on c (20 * i + f)
    · exact absurd (Or.inl ⟨f, hf, e⟩) h
    · omega
  have n : ∀ m, m < 12 → ds_in c (12 * i + m) = 0 := fun m hm => by
    by_cases e : 0 < ds_in c (12 * i + m)
    · exact absurd (Or.inr ⟨m, hm, e⟩) h
    · omega
  have t : ∀ q, 120 * i ≤ q → q < 120 * i + 120 → ds_tm c q = 0 := fun q h1 h2 => by
    obtain ⟨m, s, hm, hs, rfl⟩ : ∃ m s, m < 12 ∧ s < 10 ∧ q = 10 * (12 * i + m) + s := ⟨(q - 120 * i) / 10, q % 10, by omega, by omega, by omega⟩
    have a := sm_at (g := fun t => ds_tm c (10 * (12 * i + m) + t)) 10 s hs
    have b := ic_sml I hi hm
    have e : ds_sm c (12 * i + m) = sm_N (fun t => ds_tm c (10 * (12 * i + m) + t)) 10 := rfl
    have := n m hm
    omega
  have e1 : (fun k => if 20 * i ≤ k ∧ k < 20 * i + 20 then 0 else ds_on c k) = ds_on c := by
    funext k
    by_cases q : 20 * i ≤ k ∧ k < 20 * i + 20
    · rw [if_pos q]
      have := o (k - 20 * i) (by omega)
      rw [show 20 * i + (k - 20 * i) = k from by omega] at this
      exact this.symm
    · exact if_neg q
  have e2 : (fun k => if 12 * i ≤ k ∧ k < 12 * i + 12 then 0 else ds_in c k) = ds_in c := by
    funext k
    by_cases q : 12 * i ≤ k ∧ k < 12 * i + 12
    · rw [if_pos q]
      have := n (k - 12 * i) (by omega)
      rw [show 12 * i + (k - 12 * i) = k from by omega] at this
      exact this.symm
    · exact if_neg q
  have e3 : (fun k => if 120 * i ≤ k ∧ k < 120 * i + 120 then 0 else ds_tm c k) = ds_tm c := by
    funext k
    by_cases q : 120 * i ≤ k ∧ k < 120 * i + 120
    · rw [if_pos q]; exact (t k q.1 q.2).symm
    · exact if_neg q
  unfold dc_emp
  rw [e1, e2, e3]
  rfl
def dc_v3 (c : DS) (i : Nat) (x y z : Int32) : DS := dc_va c (upd (upd (upd (ds_va c) (3 * i) x) (3 * i + 1) y) (3 * i + 2) z)
theorem xl_b85 {post : Int32 → SX → Prop} {N D : NT} {c j : DS} {i s : Nat} {f_dNodes f_dFlows f_nodes f_flows f_clock f_acts : Int32} {a_dKind a_dNumber a_dFrom a_dTo a_dWhen a_kind a_number a_from a_to a_when a_comes a_leaves a_reached a_onFlow a_inNode a_ring a_variable a_marked a_holding a_ables a_known a_stored a_journal : Nat → Int32} (W : nt_W N) (R : xx_R N D c j (f_dNodes, f_dFlows, f_nodes, f_flows, f_clock, f_acts, a_dKind, a_dNumber, a_dFrom, a_dTo, a_dWhen, a_kind, a_number, a_from, a_to, a_when, a_comes, a_leaves, a_reached, a_onFlow, a_inNode, a_ring, a_variable, a_marked, a_holding, a_ables, a_known, a_stored, a_journal)) (hi : i < 3) (hs : s < nt_n N) (ks : nt_ki N s = 0) (hu : ∀ n, n < nt_n N → nt_ki N n = 0 → n = s) (h : ∀ u', xx_R N D (dc_put c i (nt_lv N s)) j u' → post (nI i) u') :
    ∀ d x, x + d = s → wX_begin_85 post (nI i) f_dNodes f_dFlows f_nodes f_flows f_clock f_acts a_dKind a_dNumber a_dFrom a_dTo a_dWhen a_kind a_number a_from a_to a_when a_comes a_leaves a_reached a_onFlow a_inNode a_ring a_variable a_marked a_holding a_ables a_known a_stored a_journal (d + 1) (nI x) := by
  have W12 := W.1.1
  have W20 := W.1.2.1
  have hl := W.2.2.1 s hs (by omega) (by omega)
  intro d
  induction d with
  | zero =>
    intro x hd
    have : x = s := by omega
    subst this
    have kx : (nI x).toNatClampNeg = x := nI_clamp (by omega)
    rw [wX_begin_85]
    refine And.intro (vp_in_nI (by omega) (by omega)) (br_t ?_ (And.intro (vp_in_nI (by omega) (by omega)) ?_))
    · rw [kx, R.2.1.1.2.2.1 x hs, ks]; rfl
    · rw [kx]
      exact xl_lv W20 (R.2.1.2.1.2 x hs) hl (xl_put W.1 (xx_Rw hi R) hi (by have := (nt_lvE hl).1; omega) (xx_all (fun f_dNodes f_dFlows f_nodes f_flows f_clock f_acts a_dKind a_dNumber a_dFrom a_dTo a_dWhen a_kind a_number a_from a_to a_when a_comes a_leaves a_reached a_onFlow a_inNode a_ring a_variable a_marked a_holding a_ables a_known a_stored a_journal R' => h _ R')))
  | succ d ih =>
    intro x hd
    have kx : (nI x).toNatClampNeg = x := nI_clamp (by omega)
    have kb := (W.1.2.2.2.1 x (by omega)).1
    rw [wX_begin_85]
    exact And.intro (vp_in_nI (by omega) (by omega)) (pk_eq (nt_ki N x) 0 (fun q => absurd (hu x (by omega) q) (by omega)) (fun q => nm_r (nI_1 x) (ih (x + 1) (by omega))) (by rw [kx]; exact R.2.1.1.2.2.1 x (by omega)) rfl)
theorem yl_b81b {post : Int32 → SY → Prop} {N D : NT} {c j : DS} {i s : Nat} {b_kind b_number b_from b_to b_cond b_nodes b_flows b_variables b_on b_in b_times b_stored b_clock b_acts b_reached : Nat → Int32} (W : nt_W N) (S : yy_R N D c j (b_kind, b_number, b_from, b_to, b_cond, b_nodes, b_flows, b_variables, b_on, b_in, b_times, b_stored, b_clock, b_acts, b_reached)) (hu : ∀ n, n < nt_n N → nt_ki N n = 0 → n = s) (h : ∀ v', yy_R N D c j v' → post (nI i) v') :
    ∀ d x, x + d = nt_n N → s < x → wY_begin_81 post (nI i) (d + 1) (nI x) b_kind b_number b_from b_to b_cond b_nodes b_flows b_variables b_on b_in b_times b_stored b_clock b_acts b_reached := by
  have W12 := W.1.1
  intro d
  induction d with
  | zero =>
    intro x hd hx
    rw [wY_begin_81]
    exact br_t (by rw [S.2.1.1]; exact nI_le (by omega) (by omega)) (h _ S)
  | succ d ih =>
    intro x hd hx
    have kx : (nI x).toNatClampNeg = x := nI_clamp (by omega)
    have kb := (W.1.2.2.2.1 x (by omega)).1
    rw [wY_begin_81]
    exact br_f (by rw [S.2.1.1]; exact nI_ge (by omega) (by omega)) (And.intro (vp_in_nI (by omega) (by omega)) (pk_eq (nt_ki N x) 0 (fun q => absurd (hu x (by omega) q) (by omega)) (fun q => nm_r (nI_1 x) (ih (x + 1) (by omega) (by omega))) (by rw [kx]; exact S.2.1.2.2.1 x (by omega)) rfl))
theorem yl_b81 {post : Int32 → SY → Prop} {N D : NT} {c j : DS} {i s : Nat} {b_kind b_number b_from b_to b_cond b_nodes b_flows b_variables b_on b_in b_times b_stored b_clock b_acts b_reached : Nat → Int32} (W : nt_W N) (S : yy_R N D c j (b_kind, b_number, b_from, b_to, b_cond, b_nodes, b_flows, b_variables, b_on, b_in, b_times, b_stored, b_clock, b_acts, b_reached)) (hi : i < 3) (hs : s < nt_n N) (ks : nt_ki N s = 0) (hu : ∀ n, n < nt_n N → nt_ki N n = 0 → n = s) (h : ∀ v', yy_R N D (dc_put c i (nt_lv N s)) j v' → post (nI i) v') :
    ∀ d x, x + d = nt_n N → x ≤ s → wY_begin_81 post (nI i) (d + 1) (nI x) b_kind b_number b_from b_to b_cond b_nodes b_flows b_variables b_on b_in b_times b_stored b_clock b_acts b_reached := by
  have W12 := W.1.1
  have hl := W.2.2.1 s hs (by omega) (by omega)
  intro d
  induction d with
  | zero => intro x hd hx; omega
  | succ d ih =>
    intro x hd hx
    have kx : (nI x).toNatClampNeg = x := nI_clamp (by omega)
    have kb := (W.1.2.2.2.1 x (by omega)).1
    rw [wY_begin_81]
    refine br_f (by rw [S.2.1.1]; exact nI_ge (by omega) (by omega)) (And.intro (vp_in_nI (by omega) (by omega)) (pk_eq (nt_ki N x) 0 (fun q => ?_) (fun q => nm_r (nI_1 x) (ih (x + 1) (by omega) ?_)) (by rw [kx]; exact S.2.1.2.2.1 x (by omega)) rfl))
    · have := hu x (by omega) q
      subst this
      exact yl_pass (m := 1) W.1 S hi (by omega) hl rfl (yy_all (fun b_kind b_number b_from b_to b_cond b_nodes b_flows b_variables b_on b_in b_times b_stored b_clock b_acts b_reached S' => nm_r (nI_1 x) (yl_b81b W S' hu h d (x + 1) (by omega) (by omega))))
    · by_cases e : x = s
      · subst e; exact absurd ks q
      · omega
theorem xl_b33 {post : Int32 → SX → Prop} {N D : NT} {B : Nat} {c j : DS} {i : Nat} {x y z : Int32} {f_dNodes f_dFlows f_nodes f_flows f_clock f_acts : Int32} {a_dKind a_dNumber a_dFrom a_dTo a_dWhen a_kind a_number a_from a_to a_when a_comes a_leaves a_reached a_onFlow a_inNode a_ring a_variable a_marked a_holding a_ables a_known a_stored a_journal : Nat → Int32} (W : nt_W N) (I : ic_C N B c) (R : xx_R N D c j (f_dNodes, f_dFlows, f_nodes, f_flows, f_clock, f_acts, a_dKind, a_dNumber, a_dFrom, a_dTo, a_dWhen, a_kind, a_number, a_from, a_to, a_when, a_comes, a_leaves, a_reached, a_onFlow, a_inNode, a_ring, a_variable, a_marked, a_holding, a_ables, a_known, a_stored, a_journal)) (hi : i < 3) (hd : ¬ ds_Al c i) (hn : 0 < nt_n N) (h : ∀ s, s < nt_n N → nt_ki N s = 0 → (∀ n, n < nt_n N → nt_ki N n = 0 → n = s) → ∀ u', xx_R N D (dc_put (dc_v3 c i x y z) i (nt_lv N s)) j u' → post (nI i) u') : wX_begin_33 post x y z (nI i) f_dNodes f_dFlows f_nodes f_flows f_clock f_acts a_dKind a_dNumber a_dFrom a_dTo a_dWhen a_kind a_number a_from a_to a_when a_comes a_leaves a_reached a_onFlow a_inNode a_ring a_variable a_marked a_holding a_ables a_known a_stored a_journal := by
  obtain ⟨s, hs, ks, hu⟩ := W.2.2.2 hn
  have e0 : (3 * nI i : Int32) = nI (3 * i) := pk_mul 3 i
  have e1 : (nI (3 * i) + 1 : Int32) = nI (3 * i + 1) := nI_1 _
  have e2 : (nI (3 * i) + 2 : Int32) = nI (3 * i + 2) := nI_add _ 2
  refine pk_eq i 3 (fun q => absurd q (by omega)) (fun _ => xl_empty W.1 (xx_Rw hi R) hi ?_)
  rw [em_id I hi hd]
  refine xx_all (fun f_dNodes f_dFlows f_nodes f_flows f_clock f_acts a_dKind a_dNumber a_dFrom a_dTo a_dWhen a_kind a_number a_from a_to a_when a_comes a_leaves a_reached a_onFlow a_inNode a_ring a_variable a_marked a_holding a_ables a_known a_stored a_journal R' => ?_)
  dsimp only
  rw [e0, e1, e2]
  refine And.intro (vp_in_nI (by omega) (by omega)) (nm_r (by rw [nI_clamp (by omega)]) (And.intro (vp_in_nI (by omega) (by omega)) (nm_r (by rw [nI_clamp (by omega)]) (And.intro (vp_in_nI (by omega) (by omega)) (nm_r (by rw [nI_clamp (by omega)]) ⟨s + 1, ?_⟩)))))
  exact xl_b85 (c := dc_v3 c i x y z) W (xx_va (xx_va (xx_va R'))) hi hs ks hu (h s hs ks hu) s 0 (by omega)
theorem yl_b35 {post : Int32 → SY → Prop} {N D : NT} {c j : DS} {i s : Nat} {x y z : Int32} {b_kind b_number b_from b_to b_cond b_nodes b_flows b_variables b_on b_in b_times b_stored b_clock b_acts b_reached : Nat → Int32} (W : nt_W N) (S : yy_R N D c j (b_kind, b_number, b_from, b_to, b_cond, b_nodes, b_flows, b_variables, b_on, b_in, b_times, b_stored, b_clock, b_acts, b_reached)) (hi : i < 3) (hs : s < nt_n N) (ks : nt_ki N s = 0) (hu : ∀ n, n < nt_n N → nt_ki N n = 0 → n = s) (h : ∀ v', yy_R N D (dc_put (dc_v3 c i x y z) i (nt_lv N s)) j v' → post (nI i) v') : wY_begin_35 post x y z (nI i) b_kind b_number b_from b_to b_cond b_nodes b_flows b_variables b_on b_in b_times b_stored b_clock b_acts b_reached := by
  have e0 : (3 * nI i : Int32) = nI (3 * i) := pk_mul 3 i
  have e1 : (3 * nI i + 1 : Int32) = nI (3 * i + 1) := by rw [e0]; exact nI_1 _
  have e2 : (3 * nI i + 2 : Int32) = nI (3 * i + 2) := by rw [e0]; exact nI_add _ 2
  refine pk_eq i 3 (fun q => absurd q (by omega)) (fun _ => And.intro (by rw [e0]; exact vp_in_nI (by omega) (by omega)) (nm_r (e' := upd b_variables (3 * i) x) (by rw [e0, nI_clamp (by omega)]) (And.intro (by rw [e1]; exact vp_in_nI (by omega) (by omega)) (nm_r (e' := upd (upd b_variables (3 * i) x) (3 * i + 1) y) (by rw [e1, nI_clamp (by omega)]) (And.intro (by rw [e2]; exact vp_in_nI (by omega) (by omega)) (nm_r (e' := upd (upd (upd b_variables (3 * i) x) (3 * i + 1) y) (3 * i + 2) z) (by rw [e2, nI_clamp (by omega)]) ⟨nt_n N + 1, ?_⟩))))))
  exact yl_b81 (c := dc_v3 c i x y z) W (yy_vaR (by omega) (yy_vaR (by omega) (yy_vaR (by omega) S))) hi hs ks hu h (nt_n N) 0 (by omega) (Nat.zero_le _)
theorem xl_b12 {post : Int32 → SX → Prop} {N D : NT} {B : Nat} {c j : DS} {x y z : Int32} {f_dNodes f_dFlows f_nodes f_flows f_clock f_acts : Int32} {a_dKind a_dNumber a_dFrom a_dTo a_dWhen a_kind a_number a_from a_to a_when a_comes a_leaves a_reached a_onFlow a_inNode a_ring a_variable a_marked a_holding a_ables a_known a_stored a_journal : Nat → Int32} (W : nt_W N) (I : ic_C N B c) (R : xx_R N D c j (f_dNodes, f_dFlows, f_nodes, f_flows, f_clock, f_acts, a_dKind, a_dNumber, a_dFrom, a_dTo, a_dWhen, a_kind, a_number, a_from, a_to, a_when, a_comes, a_leaves, a_reached, a_onFlow, a_inNode, a_ring, a_variable, a_marked, a_holding, a_ables, a_known, a_stored, a_journal)) (hn : 0 < nt_n N)
    (h3 : (∀ i, i < 3 → ds_Al c i) → post (-3) (f_dNodes, f_dFlows, f_nodes, f_flows, f_clock, f_acts, a_dKind, a_dNumber, a_dFrom, a_dTo, a_dWhen, a_kind, a_number, a_from, a_to, a_when, a_comes, a_leaves, a_reached, a_onFlow, a_inNode, a_ring, a_variable, a_marked, a_holding, a_ables, a_known, a_stored, a_journal)) (h : ∀ i s, i < 3 → ¬ ds_Al c i → (∀ i', i' < i → ds_Al c i') → s < nt_n N → nt_ki N s = 0 → (∀ n, n < nt_n N → nt_ki N n = 0 → n = s) → ∀ u', xx_R N D (dc_put (dc_v3 c i x y z) i (nt_lv N s)) j u' → post (nI i) u') :
    ∀ d i, i + d = 3 → (∀ i', i' < i → ds_Al c i') → wX_begin_12 post x y z f_dNodes f_dFlows f_nodes f_flows f_clock f_acts a_dKind a_dNumber a_dFrom a_dTo a_dWhen a_kind a_number a_from a_to a_when a_comes a_leaves a_reached a_onFlow a_inNode a_ring a_variable a_marked a_holding a_ables a_known a_stored a_journal (d + 1) (nI i) := by
  intro d
  induction d with
  | zero =>
    intro i hd hl
    have : i = 3 := by omega
    subst this
    rw [wX_begin_12]
    exact br_t (nI_le (Nat.le_refl _) (by omega)) (br_t rfl (h3 hl))
  | succ d ih =>
    intro i hd hl
    rw [wX_begin_12]
    refine br_f (nI_ge (b := 3) (by omega) (by omega)) (xl_isAlive R (by omega) (fun q => br_f ix_10 (nm_r (nI_1 i) (ih (i + 1) (by omega) (fun i' hi' => ?_)))) (fun q => br_t rfl (xl_b33 W I R (by omega) q hn (fun s => h i s (by omega) q hl))))
    by_cases e : i' = i
    · subst e; exact q
    · exact hl i' (by omega)
theorem yl_b14 {post : Int32 → SY → Prop} {N D : NT} {B : Nat} {c j : DS} {x y z : Int32} {b_kind b_number b_from b_to b_cond b_nodes b_flows b_variables b_on b_in b_times b_stored b_clock b_acts b_reached : Nat → Int32} (W : nt_W N) (I : ic_C N B c) (hB : B < 2 ^ 31) (S : yy_R N D c j (b_kind, b_number, b_from, b_to, b_cond, b_nodes, b_flows, b_variables, b_on, b_in, b_times, b_stored, b_clock, b_acts, b_reached)) {i0 s : Nat} (hi0 : i0 ≤ 3) (hl : ∀ i', i' < i0 → ds_Al c i') (hd : i0 < 3 → ¬ ds_Al c i0) (h3 : i0 = 3 → post (-3) (b_kind, b_number, b_from, b_to, b_cond, b_nodes, b_flows, b_variables, b_on, b_in, b_times, b_stored, b_clock, b_acts, b_reached)) (hs : s < nt_n N) (ks : nt_ki N s = 0) (hu : ∀ n, n < nt_n N → nt_ki N n = 0 → n = s)
    (h : i0 < 3 → ∀ v', yy_R N D (dc_put (dc_v3 c i0 x y z) i0 (nt_lv N s)) j v' → post (nI i0) v') :
    ∀ d i, i + d = i0 → wY_begin_14 post x y z b_kind b_number b_from b_to b_cond b_nodes b_flows b_variables b_on b_in b_times b_stored b_clock b_acts b_reached (d + 1) (nI i) := by
  intro d
  induction d with
  | zero =>
    intro i hd'
    have : i = i0 := by omega
    subst this
    rw [wY_begin_14]
    by_cases e : i = 3
    · subst e
      exact br_t (nI_le (Nat.le_refl _) (by omega)) (br_t rfl (h3 rfl))
    · exact br_f (nI_ge (b := 3) (by omega) (by omega)) (yl_alive W I hB S (by omega) (fun q => absurd q (hd (by omega))) (fun q => br_t rfl (yl_b35 W S (by omega) hs ks hu (h (by omega)))))
  | succ d ih =>
    intro i hd'
    rw [wY_begin_14]
    exact br_f (nI_ge (b := 3) (by omega) (by omega)) (yl_alive W I hB S (by omega) (fun q => br_f ix_10 (nm_r (nI_1 i) (ih (i + 1) (by omega)))) (fun q => absurd (hl i (by omega)) q))
theorem i_vc_begin {k : Nat} {u : SX} {v : SY} (I : i_Rel k u v) (hk : k + 5 ≤ 2560) (v1 : Int32) (v2 : Int32) (v3 : Int32) : wpX_begin (fun r u' => wpY_begin (fun r' v' => r' = r ∧ i_Rel (k + 5) u' v') v v1 v2 v3) u v1 v2 v3 := by
  have I5 := i_up I
  revert I5
  refine zz_el (P := fun u v => i_Rel (k + 5) u v → wpX_begin (fun r u' => wpY_begin (fun r' v' => r' = r ∧ i_Rel (k + 5) u' v') v v1 v2 v3) u v1 v2 v3) ?_ I
  intro f_dNodes f_dFlows f_nodes f_flows f_clock f_acts a_dKind a_dNumber a_dFrom a_dTo a_dWhen a_kind a_number a_from a_to a_when a_comes a_leaves a_reached a_onFlow a_inNode a_ring a_variable a_marked a_holding a_ables a_known a_stored a_journal b_kind b_number b_from b_to b_cond b_nodes b_flows b_variables b_on b_in b_times b_stored b_clock b_acts b_reached N D c j R S W WD Ic Ij I5
  have W12 := W.1.1
  have e1 : f_nodes = nI (nt_n N) := R.2.1.1.1
  have e2 : b_nodes 0 = nI (nt_n N) := S.2.1.1
  unfold wpX_begin wpY_begin
  dsimp only
  refine pk_eq (nt_n N) 0 (fun q => pk_eq (nt_n N) 0 (fun _ => ⟨rfl, I5⟩) (fun z => absurd q z) e2 rfl) (fun q => ?_) e1 rfl
  obtain ⟨s, hs, ks, hu⟩ := W.2.2.2 (by omega)
  refine ⟨4, xl_b12 W Ic R (by omega) (fun hA => ?_) (fun i s' hi hd hl hs' ks' hu' u' R' => ?_) 3 0 (by omega) (fun i' h => by omega)⟩
  · exact pk_eq (nt_n N) 0 (fun z => absurd z q) (fun _ => ⟨4, yl_b14 W Ic (by omega) S (i0 := 3) (by omega) (fun i' h => hA i' h) (fun z => by omega) (fun _ => ⟨rfl, I5⟩) hs ks hu (fun z => by omega) 3 0 (by omega)⟩) e2 rfl
  · refine pk_eq (nt_n N) 0 (fun z => absurd z q) (fun _ => ⟨i + 1, yl_b14 W Ic (by omega) S (i0 := i) (by omega) hl (fun _ => hd) (fun z => by omega) hs' ks' hu' (fun _ v' S' => ⟨rfl, N, D, dc_put (dc_v3 c i v1 v2 v3) i (nt_lv N s'), j, R', S', W, WD, ?_, ic_up Ij (by omega)⟩) i 0 (by omega)⟩) e2 rfl
    exact ic_up (ic_put W.1 hi (nt_lvE (W.2.2.1 s' hs' (by omega) (by omega))).1 (ic_va Ic)) (by omega)
end
section
/-! node, flow -/
theorem ix_bc : ∀ n, n < 128 → vp_nar .byte ((nI n).toInt8.toInt32) = nI n := by
  intro n hn
  rw [pk_vb]
  exact (by decide +kernel : ∀ n, n < 128 → (nI n).toInt8.toInt32 = nI n) n hn
theorem ix_bcw {w : Int32} (h : w = -1 ∨ ∃ q, q < 90 ∧ w = nI q) : vp_nar .byte (w.toInt8.toInt32) = w := by
  rcases h with h | ⟨q, hq, h⟩
  · rw [h, pk_vb]; decide
  · rw [h]; exact ix_bc q (by omega)
/-- the number that a node of kind p may have -/
def nd_ok (p q : Int) : Prop := (p = 6 ∧ 1 ≤ q ∧ q ≤ 9) ∨ (p = 7 ∧ 0 ≤ q ∧ q ≤ 26) ∨ ((p = 8 ∨ p = 9) ∧ 0 ≤ q ∧ q ≤ 2) ∨ (p ≠ 6 ∧ p ≠ 7 ∧ p ≠ 8 ∧ p ≠ 9 ∧ q = 0)
def nd_D (D : NT) (a b : Nat) : NT := (nt_n D + 1, nt_f D, un_U (nt_ki D) (nt_n D) a, un_U (nt_nu D) (nt_n D) b, nt_fr D, nt_to D, nt_wh D)
theorem nd_W {D : NT} {a b : Nat} (W : nt_D D) (hn : nt_n D < 12) (ha : a < 11) (hb : b < 27) (h6 : a = 6 → 0 < b ∧ b < 10) (h8 : a = 8 → b < 3) (h9 : a = 9 → b < 3) : nt_D (nd_D D a b) := by
  refine ⟨hn, W.2.1, fun f hf => ?_, fun n hn' => ?_, W.2.2.2.2⟩
  · have := W.2.2.1 f hf
    exact ⟨Nat.lt_succ_of_lt this.1, Nat.lt_succ_of_lt this.2⟩
  · have hn2 : n < nt_n D + 1 := hn'
    show un_U (nt_ki D) (nt_n D) a n < 11 ∧ un_U (nt_nu D) (nt_n D) b n < 27 ∧ (un_U (nt_ki D) (nt_n D) a n = 6 → 0 < un_U (nt_nu D) (nt_n D) b n ∧ un_U (nt_nu D) (nt_n D) b n < 10) ∧ (un_U (nt_ki D) (nt_n D) a n = 8 → un_U (nt_nu D) (nt_n D) b n < 3) ∧ (un_U (nt_ki D) (nt_n D) a n = 9 → un_U (nt_nu D) (nt_n D) b n < 3)
    by_cases e : n = nt_n D
    · subst e
      rw [un_s, un_s]
      exact ⟨ha, hb, h6, h8, h9⟩
    · rw [un_n e, un_n e]
      exact W.2.2.2.1 n (by omega)
theorem nd_xx {D : NT} {a b : Nat} {p q : Int32} {k n f t w : Nat → Int32} (R : xx_D D p q k n f t w) : xx_D (nd_D D a b) (nI (nt_n D + 1)) q (upd k (nt_n D) (nI a)) (upd n (nt_n D) (nI b)) f t w := by
  refine ⟨rfl, R.2.1, fun m hm => ?_, fun m hm => ?_, R.2.2.2.2⟩
  · have hm2 : m < nt_n D + 1 := hm
    show upd k (nt_n D) (nI a) m = nI (un_U (nt_ki D) (nt_n D) a m)
    by_cases e : m = nt_n D
    · subst e; rw [pk_us, un_s]
    · rw [pk_un e, un_n e]; exact R.2.2.1 m (by omega)
  · have hm2 : m < nt_n D + 1 := hm
    show upd n (nt_n D) (nI b) m = nI (un_U (nt_nu D) (nt_n D) b m)
    by_cases e : m = nt_n D
    · subst e; rw [pk_us, un_s]
    · rw [pk_un e, un_n e]; exact R.2.2.2.1 m (by omega)
theorem xl_nT {J : Int32 → Prop} {post : Int32 → SX → Prop} {r v1 v2 : Int32} {f_dNodes f_dFlows f_nodes f_flows f_clock f_acts : Int32} {a_dKind a_dNumber a_dFrom a_dTo a_dWhen a_kind a_number a_from a_to a_when a_comes a_leaves a_reached a_onFlow a_inNode a_ring a_variable a_marked a_holding a_ables a_known a_stored a_journal : Nat → Int32} (hJ : ∀ x, J x → wX_node_87 post v1 v2 x f_dNodes f_dFlows f_nodes f_flows f_clock f_acts a_dKind a_dNumber a_dFrom a_dTo a_dWhen a_kind a_number a_from a_to a_when a_comes a_leaves a_reached a_onFlow a_inNode a_ring a_variable a_marked a_holding a_ables a_known a_stored a_journal) (h1 : nd_ok v1.toInt v2.toInt → J (r &&& 1)) (h0 : ¬ nd_ok v1.toInt v2.toInt → J (r &&& 0)) :
    (v1 = 6 → (v2 ≤ 0 → wX_node_28 post v1 v2 r f_dNodes f_dFlows f_nodes f_flows f_clock f_acts a_dKind a_dNumber a_dFrom a_dTo a_dWhen a_kind a_number a_from a_to a_when a_comes a_leaves a_reached a_onFlow a_inNode a_ring a_variable a_marked a_holding a_ables a_known a_stored a_journal) ∧ (¬ v2 ≤ 0 → (10 ≤ v2 → wX_node_28 post v1 v2 r f_dNodes f_dFlows f_nodes f_flows f_clock f_acts a_dKind a_dNumber a_dFrom a_dTo a_dWhen a_kind a_number a_from a_to a_when a_comes a_leaves a_reached a_onFlow a_inNode a_ring a_variable a_marked a_holding a_ables a_known a_stored a_journal) ∧ (¬ 10 ≤ v2 → wX_node_29 post v1 v2 1 r f_dNodes f_dFlows f_nodes f_flows f_clock f_acts a_dKind a_dNumber a_dFrom a_dTo a_dWhen a_kind a_number a_from a_to a_when a_comes a_leaves a_reached a_onFlow a_inNode a_ring a_variable a_marked a_holding a_ables a_known a_stored a_journal))) ∧
    (¬ v1 = 6 → (v1 = 7 → wpX_among (fun r_17 => ∀ x3_18, x3_18 = r &&& r_17 → wX_node_87 post v1 v2 x3_18 f_dNodes f_dFlows f_nodes f_flows f_clock f_acts a_dKind a_dNumber a_dFrom a_dTo a_dWhen a_kind a_number a_from a_to a_when a_comes a_leaves a_reached a_onFlow a_inNode a_ring a_variable a_marked a_holding a_ables a_known a_stored a_journal) v2 27) ∧ (¬ v1 = 7 → (v1 = 8 → wX_node_64 post v1 v2 r f_dNodes f_dFlows f_nodes f_flows f_clock f_acts a_dKind a_dNumber a_dFrom a_dTo a_dWhen a_kind a_number a_from a_to a_when a_comes a_leaves a_reached a_onFlow a_inNode a_ring a_variable a_marked a_holding a_ables a_known a_stored a_journal) ∧ (¬ v1 = 8 → (v1 = 9 → wX_node_64 post v1 v2 r f_dNodes f_dFlows f_nodes f_flows f_clock f_acts a_dKind a_dNumber a_dFrom a_dTo a_dWhen a_kind a_number a_from a_to a_when a_comes a_leaves a_reached a_onFlow a_inNode a_ring a_variable a_marked a_holding a_ables a_known a_stored a_journal) ∧
    (¬ v1 = 9 → (v2 = 0 → wX_node_85 post v1 v2 1 r f_dNodes f_dFlows f_nodes f_flows f_clock f_acts a_dKind a_dNumber a_dFrom a_dTo a_dWhen a_kind a_number a_from a_to a_when a_comes a_leaves a_reached a_onFlow a_inNode a_ring a_variable a_marked a_holding a_ables a_known a_stored a_journal) ∧ (¬ v2 = 0 → wX_node_85 post v1 v2 0 r f_dNodes f_dFlows f_nodes f_flows f_clock f_acts a_dKind a_dNumber a_dFrom a_dTo a_dWhen a_kind a_number a_from a_to a_when a_comes a_leaves a_reached a_onFlow a_inNode a_ring a_variable a_marked a_holding a_ables a_known a_stored a_journal))))) := by
  have F64 : (v1.toInt = 8 ∨ v1.toInt = 9) → wX_node_64 post v1 v2 r f_dNodes f_dFlows f_nodes f_flows f_clock f_acts a_dKind a_dNumber a_dFrom a_dTo a_dWhen a_kind a_number a_from a_to a_when a_comes a_leaves a_reached a_onFlow a_inNode a_ring a_variable a_marked a_holding a_ables a_known a_stored a_journal := fun e => xl_among (n := 3) (by omega) (fun a b => nm_e (hJ _ (h1 (by unfold nd_ok; omega)))) (fun a => nm_e (hJ _ (h0 (by unfold nd_ok; omega))))
  refine iz_if (iz_eq (n := 6) (by omega)) (fun e => iz_if (iz_le2 (n := 0) (by omega)) (fun a => nm_e (hJ _ (h0 (by unfold nd_ok; omega)))) (fun a => iz_if (iz_le1 (n := 10) (by omega)) (fun b => nm_e (hJ _ (h0 (by unfold nd_ok; omega)))) (fun b => nm_e (hJ _ (h1 (by unfold nd_ok; omega)))))) (fun e6 => iz_if (iz_eq (n := 7) (by omega)) (fun e => xl_among (n := 27) (by omega) (fun a b => nm_e (hJ _ (h1 (by unfold nd_ok; omega)))) (fun a => nm_e (hJ _ (h0 (by unfold nd_ok; omega))))) (fun e7 => iz_if (iz_eq (n := 8) (by omega)) (fun e => F64 (Or.inl e)) (fun e8 => iz_if (iz_eq (n := 9) (by omega)) (fun e => F64 (Or.inr e)) (fun e9 => iz_if (iz_eq (n := 0) (by omega)) (fun a => nm_e (hJ _ (h1 (by unfold nd_ok; omega)))) (fun a => nm_e (hJ _ (h0 (by unfold nd_ok; omega))))))))
theorem xl_node {post : Int32 → SX → Prop} {N D : NT} {c j : DS} {v1 v2 : Int32} {f_dNodes f_dFlows f_nodes f_flows f_clock f_acts : Int32} {a_dKind a_dNumber a_dFrom a_dTo a_dWhen a_kind a_number a_from a_to a_when a_comes a_leaves a_reached a_onFlow a_inNode a_ring a_variable a_marked a_holding a_ables a_known a_stored a_journal : Nat → Int32} (WD : nt_D D) (R : xx_R N D c j (f_dNodes, f_dFlows, f_nodes, f_flows, f_clock, f_acts, a_dKind, a_dNumber, a_dFrom, a_dTo, a_dWhen, a_kind, a_number, a_from, a_to, a_when, a_comes, a_leaves, a_reached, a_onFlow, a_inNode, a_ring, a_variable, a_marked, a_holding, a_ables, a_known, a_stored, a_journal))
    (hr : ¬ (0 ≤ v1.toInt ∧ v1.toInt < 11 ∧ nd_ok v1.toInt v2.toInt) → post (-1) (f_dNodes, f_dFlows, f_nodes, f_flows, f_clock, f_acts, a_dKind, a_dNumber, a_dFrom, a_dTo, a_dWhen, a_kind, a_number, a_from, a_to, a_when, a_comes, a_leaves, a_reached, a_onFlow, a_inNode, a_ring, a_variable, a_marked, a_holding, a_ables, a_known, a_stored, a_journal))
    (hf : (0 ≤ v1.toInt ∧ v1.toInt < 11 ∧ nd_ok v1.toInt v2.toInt) → nt_n D = 12 → post (-3) (f_dNodes, f_dFlows, f_nodes, f_flows, f_clock, f_acts, a_dKind, a_dNumber, a_dFrom, a_dTo, a_dWhen, a_kind, a_number, a_from, a_to, a_when, a_comes, a_leaves, a_reached, a_onFlow, a_inNode, a_ring, a_variable, a_marked, a_holding, a_ables, a_known, a_stored, a_journal))
    (ha : ∀ a b, v1 = nI a → v2 = nI b → a < 11 → b < 27 → (0 ≤ v1.toInt ∧ v1.toInt < 11 ∧ nd_ok v1.toInt v2.toInt) → nt_n D < 12 → ∀ u', xx_R N (nd_D D a b) c j u' → post (nI (nt_n D)) u') : wpX_node post (f_dNodes, f_dFlows, f_nodes, f_flows, f_clock, f_acts, a_dKind, a_dNumber, a_dFrom, a_dTo, a_dWhen, a_kind, a_number, a_from, a_to, a_when, a_comes, a_leaves, a_reached, a_onFlow, a_inNode, a_ring, a_variable, a_marked, a_holding, a_ables, a_known, a_stored, a_journal) v1 v2 := by
  have W12 := WD.1
  have RD := R.1
  have kd : (nI (nt_n D)).toNatClampNeg = nt_n D := nI_clamp (by omega)
  have e1 : f_dNodes = nI (nt_n D) := RD.1
  subst e1
  have A : (0 ≤ v1.toInt ∧ v1.toInt < 11 ∧ nd_ok v1.toInt v2.toInt) → wX_node_87 post v1 v2 1 (nI (nt_n D)) f_dFlows f_nodes f_flows f_clock f_acts a_dKind a_dNumber a_dFrom a_dTo a_dWhen a_kind a_number a_from a_to a_when a_comes a_leaves a_reached a_onFlow a_inNode a_ring a_variable a_marked a_holding a_ables a_known a_stored a_journal := by
    intro g
    have g3 := g.2.2
    unfold nd_ok at g3
    obtain ⟨a, ha11, ea⟩ := iz_of (x := v1) (n := 11) g.1 (by omega) (by omega)
    obtain ⟨b, hb27, eb⟩ := iz_of (x := v2) (n := 27) (by omega) (by omega) (by omega)
    subst ea
    subst eb
    refine br_f ix_10 (pk_eq (nt_n D) 12 (fun q => hf g q) (fun q => And.intro (vp_in_nI (by omega) (by omega)) (nm_r (e' := upd a_dKind (nt_n D) (nI a)) (by rw [kd, ix_bc a (by omega)]) (And.intro (vp_in_nI (by omega) (by omega)) (nm_r (e' := upd a_dNumber (nt_n D) (nI b)) (by rw [kd, ix_bc b (by omega)]) (nm_r (nI_1 _) (ha a b rfl rfl ha11 hb27 g (by omega) _ ⟨nd_xx RD, R.2⟩)))))))
  unfold wpX_node
  dsimp only
  refine xl_among (n := 11) (by omega) (fun a b => ?_) (fun a => ?_)
  · refine xl_nT (J := fun x => wX_node_87 post v1 v2 x (nI (nt_n D)) f_dFlows f_nodes f_flows f_clock f_acts a_dKind a_dNumber a_dFrom a_dTo a_dWhen a_kind a_number a_from a_to a_when a_comes a_leaves a_reached a_onFlow a_inNode a_ring a_variable a_marked a_holding a_ables a_known a_stored a_journal) (fun x h => h) (fun q => A ⟨a, b, q⟩) (fun q => br_t (by decide) (hr (fun w => q w.2.2)))
  · refine xl_nT (J := fun x => wX_node_87 post v1 v2 x (nI (nt_n D)) f_dFlows f_nodes f_flows f_clock f_acts a_dKind a_dNumber a_dFrom a_dTo a_dWhen a_kind a_number a_from a_to a_when a_comes a_leaves a_reached a_onFlow a_inNode a_ring a_variable a_marked a_holding a_ables a_known a_stored a_journal) (fun x h => h) (fun q => br_t (by decide) (hr (fun w => a ⟨w.1, w.2.1⟩))) (fun q => br_t (by decide) (hr (fun w => a ⟨w.1, w.2.1⟩)))
theorem yl_node {post : Int32 → SY → Prop} {N D : NT} {c j : DS} {v1 v2 : Int32} {b_kind b_number b_from b_to b_cond b_nodes b_flows b_variables b_on b_in b_times b_stored b_clock b_acts b_reached : Nat → Int32} (WD : nt_D D) (S : yy_R N D c j (b_kind, b_number, b_from, b_to, b_cond, b_nodes, b_flows, b_variables, b_on, b_in, b_times, b_stored, b_clock, b_acts, b_reached))
    (hr : ¬ (0 ≤ v1.toInt ∧ v1.toInt < 11 ∧ nd_ok v1.toInt v2.toInt) → post (-1) (b_kind, b_number, b_from, b_to, b_cond, b_nodes, b_flows, b_variables, b_on, b_in, b_times, b_stored, b_clock, b_acts, b_reached))
    (hf : (0 ≤ v1.toInt ∧ v1.toInt < 11 ∧ nd_ok v1.toInt v2.toInt) → nt_n D = 12 → post (-3) (b_kind, b_number, b_from, b_to, b_cond, b_nodes, b_flows, b_variables, b_on, b_in, b_times, b_stored, b_clock, b_acts, b_reached))
    (ha : ∀ a b, v1 = nI a → v2 = nI b → a < 11 → b < 27 → (0 ≤ v1.toInt ∧ v1.toInt < 11 ∧ nd_ok v1.toInt v2.toInt) → nt_n D < 12 → nt_n N ≤ 12 → ∀ v', yy_R N (nd_D D a b) c j v' → post (nI (nt_n D)) v') (WN : nt_D N) : wpY_node post (b_kind, b_number, b_from, b_to, b_cond, b_nodes, b_flows, b_variables, b_on, b_in, b_times, b_stored, b_clock, b_acts, b_reached) v1 v2 := by
  have W12 := WD.1
  have N12 := WN.1
  have RD := S.1
  have e1 : b_nodes 1 = nI (nt_n D) := RD.1
  have e12 : (12 + b_nodes 1 : Int32) = nI (12 + nt_n D) := by rw [e1]; exact nI_add 12 _
  have kd : (12 + b_nodes 1).toNatClampNeg = 12 + nt_n D := by rw [e12]; exact nI_clamp (by omega)
  have A : ∀ (mo le : Nat), mo < 2 ^ 31 → le < 2 ^ 31 → ((0 ≤ v1.toInt ∧ v1.toInt < 11 ∧ nd_ok v1.toInt v2.toInt) ↔ ((le : Int) ≤ v2.toInt ∧ v2.toInt ≤ (mo : Int))) → wY_node_61 post v1 v2 (nI mo) (nI le) v2 b_kind b_number b_from b_to b_cond b_nodes b_flows b_variables b_on b_in b_times b_stored b_clock b_acts b_reached := by
    intro mo le h1 h2 g
    refine iz_if (iz_lt2 h2) (fun q => hr (fun w => ?_)) (fun q => iz_if (iz_le2 h1) (fun q2 => ?_) (fun q2 => hr (fun w => ?_)))
    · have := (g.mp w).1; omega
    · have G := g.mpr ⟨by omega, q2⟩
      have g3 := G.2.2
      unfold nd_ok at g3
      obtain ⟨a, ha11, ea⟩ := iz_of (x := v1) (n := 11) G.1 (by omega) (by omega)
      obtain ⟨b, hb27, eb⟩ := iz_of (x := v2) (n := 27) (by omega) (by omega) (by omega)
      subst ea
      subst eb
      refine pk_eq (nt_n D) 12 (fun q => hf G q) (fun q => And.intro (by rw [e12]; exact vp_in_nI (by omega) (by omega)) (nm_r (e' := upd b_kind (12 + nt_n D) (nI a)) (by rw [kd, ix_bc a (by omega)]) (And.intro (by rw [e12]; exact vp_in_nI (by omega) (by omega)) (nm_r (e' := upd b_number (12 + nt_n D) (nI b)) (by rw [kd, ix_bc b (by omega)]) (nm_r (e' := upd b_nodes 1 (nI (nt_n D + 1))) (by rw [e1, nI_1, ix_bc _ (by omega)]) ?_))))) e1 rfl
      rw [e1]
      refine ha a b rfl rfl ha11 hb27 G (by omega) N12 _ ⟨?_, ?_, S.2.2⟩
      · have X := nd_xx (a := a) (b := b) RD
        refine ⟨pk_us, X.2.1, fun m hm => ?_, fun m hm => ?_, X.2.2.2.2⟩
        · have := X.2.2.1 m hm
          rw [← this]
          show upd b_kind (12 + nt_n D) (nI a) (12 + m) = upd (fun n => b_kind (12 + n)) (nt_n D) (nI a) m
          by_cases e : m = nt_n D
          · subst e; rw [pk_us, pk_us]
          · rw [pk_un e, pk_un (by omega)]
        · have := X.2.2.2.1 m hm
          rw [← this]
          show upd b_number (12 + nt_n D) (nI b) (12 + m) = upd (fun n => b_number (12 + n)) (nt_n D) (nI b) m
          by_cases e : m = nt_n D
          · subst e; rw [pk_us, pk_us]
          · rw [pk_un e, pk_un (by omega)]
      · refine ⟨(pk_un (by omega)).trans S.2.1.1, S.2.1.2.1, fun m hm => ?_, fun m hm => ?_, S.2.1.2.2.2.2⟩
        · rw [pk_un (by omega)]; exact S.2.1.2.2.1 m hm
        · rw [pk_un (by omega)]; exact S.2.1.2.2.2.1 m hm
    · have := (g.mp w).2; omega
  have B : ∀ mo : Nat, mo < 2 ^ 31 → (v1.toInt = 6 → mo = 9) → (v1.toInt = 7 → mo = 26) → (v1.toInt = 8 ∨ v1.toInt = 9 → mo = 2) → ((v1.toInt ≠ 6 ∧ v1.toInt ≠ 7 ∧ v1.toInt ≠ 8 ∧ v1.toInt ≠ 9) → mo = 0) → wY_node_39 post v1 v2 (nI mo) b_kind b_number b_from b_to b_cond b_nodes b_flows b_variables b_on b_in b_times b_stored b_clock b_acts b_reached := by
    intro mo hmo m6 m7 m8 m0
    refine yl_out (n := 11) (by omega) (fun a b => br_t rfl (iz_if (iz_eq (n := 6) (by omega)) (fun e => A mo 1 hmo (by omega) ?_) (fun e => A mo 0 hmo (by omega) ?_))) (fun a => br_f ix_10 (hr (fun w => a ⟨w.1, w.2.1⟩)))
    · unfold nd_ok
      have := m6 e
      subst this
      omega
    · have e' : ¬ v1.toInt = 6 := e
      have h : mo = if v1.toInt = 7 then 26 else if v1.toInt = 8 ∨ v1.toInt = 9 then 2 else 0 := by
        by_cases q7 : v1.toInt = 7
        · rw [if_pos q7]; exact m7 q7
        · rw [if_neg q7]
          by_cases q8 : v1.toInt = 8 ∨ v1.toInt = 9
          · rw [if_pos q8]; exact m8 q8
          · rw [if_neg q8]; exact m0 (by omega)
      unfold nd_ok
      by_cases q7 : v1.toInt = 7
      · rw [if_pos q7] at h; subst h; omega
      · rw [if_neg q7] at h
        by_cases q8 : v1.toInt = 8 ∨ v1.toInt = 9
        · rw [if_pos q8] at h; subst h; omega
        · rw [if_neg q8] at h; subst h; omega
  unfold wpY_node
  dsimp only
  exact iz_if (iz_eq (n := 6) (by omega)) (fun e => B 9 (by omega) (fun _ => rfl) (fun z => by omega) (fun z => by omega) (fun z => by omega)) (fun e6 => iz_if (iz_eq (n := 7) (by omega)) (fun e => B 26 (by omega) (fun z => by omega) (fun _ => rfl) (fun z => by omega) (fun z => by omega)) (fun e7 => iz_if (iz_eq (n := 8) (by omega)) (fun e => B 2 (by omega) (fun z => by omega) (fun z => by omega) (fun _ => rfl) (fun z => by omega)) (fun e8 => iz_if (iz_eq (n := 9) (by omega)) (fun e => B 2 (by omega) (fun z => by omega) (fun z => by omega) (fun _ => rfl) (fun z => by omega)) (fun e9 => B 0 (by omega) (fun z => by omega) (fun z => by omega) (fun z => by omega) (fun _ => rfl)))))
theorem i_vc_node {k : Nat} {u : SX} {v : SY} (I : i_Rel k u v) (hk : k + 5 ≤ 2560) (v1 : Int32) (v2 : Int32) : wpX_node (fun r u' => wpY_node (fun r' v' => r' = r ∧ i_Rel (k + 5) u' v') v v1 v2) u v1 v2 := by
  have I5 := i_up I
  revert I5
  refine zz_el (P := fun u v => i_Rel (k + 5) u v → wpX_node (fun r u' => wpY_node (fun r' v' => r' = r ∧ i_Rel (k + 5) u' v') v v1 v2) u v1 v2) ?_ I
  intro f_dNodes f_dFlows f_nodes f_flows f_clock f_acts a_dKind a_dNumber a_dFrom a_dTo a_dWhen a_kind a_number a_from a_to a_when a_comes a_leaves a_reached a_onFlow a_inNode a_ring a_variable a_marked a_holding a_ables a_known a_stored a_journal b_kind b_number b_from b_to b_cond b_nodes b_flows b_variables b_on b_in b_times b_stored b_clock b_acts b_reached N D c j R S W WD Ic Ij I5
  refine xl_node WD R (fun q => yl_node WD S (fun _ => ⟨rfl, I5⟩) (fun z => absurd z q) (fun _ _ _ _ _ _ z => absurd z q) W.1) (fun q e => yl_node WD S (fun z => absurd q z) (fun _ _ => ⟨rfl, I5⟩) (fun _ _ _ _ _ _ _ z => by omega) W.1) (fun a b ea eb ha hb g hn u' R' => yl_node WD S (fun z => absurd g z) (fun _ z => by omega) (fun a' b' ea' eb' ha' hb' _ _ _ v' S' => ⟨rfl, N, nd_D D a b, c, j, R', ?_, W, nd_W WD hn ha hb ?_ ?_ ?_, ic_up Ic (by omega), ic_up Ij (by omega)⟩) W.1)
  · have e1 : a' = a := (nI_eq (by omega) (by omega)).mp (ea'.symm.trans ea)
    have e2 : b' = b := (nI_eq (by omega) (by omega)).mp (eb'.symm.trans eb)
    subst e1
    subst e2
    exact S'
  · intro e
    have g3 := g.2.2
    rw [ea, eb, nI_toInt (by omega), nI_toInt (by omega)] at g3
    unfold nd_ok at g3
    omega
  · intro e
    have g3 := g.2.2
    rw [ea, eb, nI_toInt (by omega), nI_toInt (by omega)] at g3
    unfold nd_ok at g3
    omega
  · intro e
    have g3 := g.2.2
    rw [ea, eb, nI_toInt (by omega), nI_toInt (by omega)] at g3
    unfold nd_ok at g3
    omega
end
section
/-! flow -/
def fl_D (D : NT) (a b : Nat) (w : Int32) : NT := (nt_n D, nt_f D + 1, nt_ki D, nt_nu D, un_U (nt_fr D) (nt_f D) a, un_U (nt_to D) (nt_f D) b, upd (nt_wh D) (nt_f D) w)
theorem fl_W {D : NT} {a b : Nat} {w : Int32} (W : nt_D D) (hf : nt_f D < 20) (ha : a < nt_n D) (hb : b < nt_n D) (hw : w = -1 ∨ ∃ q, q < 90 ∧ w = nI q) : nt_D (fl_D D a b w) := by
  refine ⟨W.1, hf, fun f hf' => ?_, W.2.2.2.1, fun f hf' => ?_⟩
  · have h2 : f < nt_f D + 1 := hf'
    show un_U (nt_fr D) (nt_f D) a f < nt_n D ∧ un_U (nt_to D) (nt_f D) b f < nt_n D
    by_cases e : f = nt_f D
    · subst e; rw [un_s, un_s]; exact ⟨ha, hb⟩
    · rw [un_n e, un_n e]; exact W.2.2.1 f (by omega)
  · have h2 : f < nt_f D + 1 := hf'
    show upd (nt_wh D) (nt_f D) w f = -1 ∨ ∃ q, q < 90 ∧ upd (nt_wh D) (nt_f D) w f = nI q
    by_cases e : f = nt_f D
    · subst e; rw [pk_us]; exact hw
    · rw [pk_un e]; exact W.2.2.2.2 f (by omega)
theorem fl_xx {D : NT} {a b : Nat} {x p q : Int32} {k n f t w : Nat → Int32} (R : xx_D D p q k n f t w) : xx_D (fl_D D a b x) p (nI (nt_f D + 1)) k n (upd f (nt_f D) (nI a)) (upd t (nt_f D) (nI b)) (upd w (nt_f D) x) := by
  refine ⟨R.1, rfl, R.2.2.1, R.2.2.2.1, fun m hm => ?_, fun m hm => ?_, fun m hm => ?_⟩
  · have hm2 : m < nt_f D + 1 := hm
    show upd f (nt_f D) (nI a) m = nI (un_U (nt_fr D) (nt_f D) a m)
    by_cases e : m = nt_f D
    · subst e; rw [pk_us, un_s]
    · rw [pk_un e, un_n e]; exact R.2.2.2.2.1 m (by omega)
  · have hm2 : m < nt_f D + 1 := hm
    show upd t (nt_f D) (nI b) m = nI (un_U (nt_to D) (nt_f D) b m)
    by_cases e : m = nt_f D
    · subst e; rw [pk_us, un_s]
    · rw [pk_un e, un_n e]; exact R.2.2.2.2.2.1 m (by omega)
  · have hm2 : m < nt_f D + 1 := hm
    show upd w (nt_f D) x m = upd (nt_wh D) (nt_f D) x m
    by_cases e : m = nt_f D
    · subst e; rw [pk_us, pk_us]
    · rw [pk_un e, pk_un e]; exact R.2.2.2.2.2.2 m (by omega)
theorem fl_sh {k : Nat → Int32} {o m : Nat} {x : Int32} : ∀ q, upd k (o + m) x (o + q) = upd (fun n => k (o + n)) m x q := by
  intro q
  by_cases e : q = m
  · subst e; rw [pk_us, pk_us]
  · rw [pk_un e, pk_un (by omega)]
theorem fl_yy {N D : NT} {c j : DS} {a b : Nat} {x : Int32} {b_kind b_number b_from b_to b_cond b_nodes b_flows b_variables b_on b_in b_times b_stored b_clock b_acts b_reached : Nat → Int32} (WN : nt_D N) (S : yy_R N D c j (b_kind, b_number, b_from, b_to, b_cond, b_nodes, b_flows, b_variables, b_on, b_in, b_times, b_stored, b_clock, b_acts, b_reached)) : yy_R N (fl_D D a b x) c j (b_kind, b_number, upd b_from (20 + nt_f D) (nI a), upd b_to (20 + nt_f D) (nI b), upd b_cond (20 + nt_f D) x, b_nodes, upd b_flows 1 (nI (nt_f D + 1)), b_variables, b_on, b_in, b_times, b_stored, b_clock, b_acts, b_reached) := by
  have W20 := WN.2.1
  have X := fl_xx (a := a) (b := b) (x := x) S.1
  refine ⟨⟨X.1, pk_us, X.2.2.1, X.2.2.2.1, fun m hm => (fl_sh m).trans (X.2.2.2.2.1 m hm), fun m hm => (fl_sh m).trans (X.2.2.2.2.2.1 m hm), fun m hm => (fl_sh m).trans (X.2.2.2.2.2.2 m hm)⟩, ⟨S.2.1.1, (pk_un (by omega)).trans S.2.1.2.1, S.2.1.2.2.1, S.2.1.2.2.2.1, fun m hm => ?_, fun m hm => ?_, fun m hm => ?_⟩, S.2.2⟩
  · rw [pk_un (by omega)]; exact S.2.1.2.2.2.2.1 m hm
  · rw [pk_un (by omega)]; exact S.2.1.2.2.2.2.2.1 m hm
  · rw [pk_un (by omega)]; exact S.2.1.2.2.2.2.2.2 m hm
theorem fl_wh {w : Int32} (h1 : ¬ w < -1) (h2 : w ≤ 89) : w = -1 ∨ ∃ q, q < 90 ∧ w = nI q := by
  have a : ¬ w.toInt < (-1 : Int32).toInt := fun z => h1 (Int32.lt_iff_toInt_lt.mpr z)
  have b := (iz_le2 (n := 89) (by omega)).mp h2
  rw [show (-1 : Int32).toInt = -1 from by decide] at a
  by_cases e : w.toInt = -1
  · exact Or.inl (Int32.toInt_inj.mp (by rw [e]; decide))
  · obtain ⟨q, hq, e2⟩ := iz_of (x := w) (n := 90) (by omega) (by omega) (by omega)
    exact Or.inr ⟨q, hq, e2⟩
theorem i_vc_flow {k : Nat} {u : SX} {v : SY} (I : i_Rel k u v) (hk : k + 5 ≤ 2560) (v1 : Int32) (v2 : Int32) (v3 : Int32) : wpX_flow (fun r u' => wpY_flow (fun r' v' => r' = r ∧ i_Rel (k + 5) u' v') v v1 v2 v3) u v1 v2 v3 := by
  have I5 := i_up I
  revert I5
  refine zz_el (P := fun u v => i_Rel (k + 5) u v → wpX_flow (fun r u' => wpY_flow (fun r' v' => r' = r ∧ i_Rel (k + 5) u' v') v v1 v2 v3) u v1 v2 v3) ?_ I
  intro f_dNodes f_dFlows f_nodes f_flows f_clock f_acts a_dKind a_dNumber a_dFrom a_dTo a_dWhen a_kind a_number a_from a_to a_when a_comes a_leaves a_reached a_onFlow a_inNode a_ring a_variable a_marked a_holding a_ables a_known a_stored a_journal b_kind b_number b_from b_to b_cond b_nodes b_flows b_variables b_on b_in b_times b_stored b_clock b_acts b_reached N D c j R S W WD Ic Ij I5
  have D12 := WD.1
  have D20 := WD.2.1
  have e1 : f_dNodes = nI (nt_n D) := R.1.1
  have e2 : f_dFlows = nI (nt_f D) := R.1.2.1
  have e3 : b_nodes 1 = nI (nt_n D) := S.1.1
  have e4 : b_flows 1 = nI (nt_f D) := S.1.2.1
  have e20 : (20 + b_flows 1 : Int32) = nI (20 + nt_f D) := by rw [e4]; exact nI_add 20 _
  have k20 : (20 + b_flows 1).toNatClampNeg = 20 + nt_f D := by rw [e20]; exact nI_clamp (by omega)
  have v20 : nt_f D < 20 → vp_in (20 + b_flows 1) 40 := fun h => by rw [e20]; exact vp_in_nI (by omega) (by omega)
  have kd : (nI (nt_f D)).toNatClampNeg = nt_f D := nI_clamp (by omega)
  subst e1
  subst e2
  unfold wpX_flow wpY_flow
  dsimp only
  rw [e3]
  refine xl_among (n := nt_n D) (by omega) (fun a b => br_f ix_10 (xl_among (n := nt_n D) (by omega) (fun a2 b2 => br_f ix_10 ?_) (fun a2 => br_t rfl ?_))) (fun a => br_t rfl ?_)
  · obtain ⟨p, hp, rfl⟩ := iz_of a b (by omega)
    obtain ⟨q, hq, rfl⟩ := iz_of a2 b2 (by omega)
    refine br_c (fun c1 => ?_) (fun c1 => br_c (fun c2 => ?_) (fun c2 => br_c (fun c3 => pk_eq (nt_f D) 20 (fun c4 => ?_) (fun c4 => ?_)) (fun c3 => ?_)))
    · exact yl_out (by omega) (fun _ _ => br_t rfl (yl_out (by omega) (fun _ _ => br_t rfl (br_t c1 ⟨rfl, I5⟩)) (fun z => absurd ⟨a2, b2⟩ z))) (fun z => absurd ⟨a, b⟩ z)
    · exact yl_out (by omega) (fun _ _ => br_t rfl (yl_out (by omega) (fun _ _ => br_t rfl (br_f c1 (br_t c2 ⟨rfl, I5⟩))) (fun z => absurd ⟨a2, b2⟩ z))) (fun z => absurd ⟨a, b⟩ z)
    · exact yl_out (by omega) (fun _ _ => br_t rfl (yl_out (by omega) (fun _ _ => br_t rfl (br_f c1 (br_f c2 (br_t c3 (pk_eq (nt_f D) 20 (fun _ => ⟨rfl, I5⟩) (fun z => absurd c4 z) e4 rfl))))) (fun z => absurd ⟨a2, b2⟩ z))) (fun z => absurd ⟨a, b⟩ z)
    · have hw := fl_wh c2 c3
      have vf : vp_in (nI (nt_f D)) 20 := vp_in_nI (by omega) (by omega)
      refine And.intro vf (nm_r (e' := upd a_dFrom (nt_f D) (nI p)) (by rw [kd, ix_bc p (by omega)]) (And.intro vf (nm_r (e' := upd a_dTo (nt_f D) (nI q)) (by rw [kd, ix_bc q (by omega)]) (And.intro vf (nm_r (e' := upd a_dWhen (nt_f D) v3) (by rw [kd, ix_bcw hw]) (nm_r (nI_1 _) ?_))))))
      have RX : xx_R N (fl_D D p q v3) c j (nI (nt_n D), nI (nt_f D + 1), f_nodes, f_flows, f_clock, f_acts, a_dKind, a_dNumber, upd a_dFrom (nt_f D) (nI p), upd a_dTo (nt_f D) (nI q), upd a_dWhen (nt_f D) v3, a_kind, a_number, a_from, a_to, a_when, a_comes, a_leaves, a_reached, a_onFlow, a_inNode, a_ring, a_variable, a_marked, a_holding, a_ables, a_known, a_stored, a_journal) := ⟨fl_xx R.1, R.2⟩
      have SY' := fl_yy (a := p) (b := q) (x := v3) W.1 S
      have vy := v20 (by omega)
      refine yl_out (by omega) (fun _ _ => br_t rfl (yl_out (by omega) (fun _ _ => br_t rfl (br_f c1 (br_f c2 (br_t c3 (pk_eq (nt_f D) 20 (fun z => absurd z c4) (fun _ => And.intro vy (nm_r (e' := upd b_from (20 + nt_f D) (nI p)) (by rw [k20, ix_bc p (by omega)]) (And.intro vy (nm_r (e' := upd b_to (20 + nt_f D) (nI q)) (by rw [k20, ix_bc q (by omega)]) (And.intro vy (nm_r (e' := upd b_cond (20 + nt_f D) v3) (by rw [k20, ix_bcw hw]) (nm_r (e' := upd b_flows 1 (nI (nt_f D + 1))) (by rw [e4, nI_1, ix_bc _ (by omega)]) ⟨e4, N, fl_D D p q v3, c, j, RX, SY', W, fl_W WD (by omega) hp hq hw, ic_up Ic (by omega), ic_up Ij (by omega)⟩))))))) e4 rfl))))) (fun z => absurd ⟨a2, b2⟩ z))) (fun z => absurd ⟨a, b⟩ z)
    · exact yl_out (by omega) (fun _ _ => br_t rfl (yl_out (by omega) (fun _ _ => br_t rfl (br_f c1 (br_f c2 (br_f c3 ⟨rfl, I5⟩)))) (fun z => absurd ⟨a2, b2⟩ z))) (fun z => absurd ⟨a, b⟩ z)
  · exact yl_out (by omega) (fun _ _ => br_t rfl (yl_out (by omega) (fun q1 q2 => absurd ⟨q1, q2⟩ a2) (fun z => br_f ix_10 ⟨rfl, I5⟩))) (fun z => absurd ⟨a, b⟩ z)
  · exact yl_out (by omega) (fun q1 q2 => absurd ⟨q1, q2⟩ a) (fun z => br_f ix_10 ⟨rfl, I5⟩)
end
