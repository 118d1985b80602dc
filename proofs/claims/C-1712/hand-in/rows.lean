section
/-! rows of the kit (kit/rows), pasted -/
def bt (x : Int32) (i : Nat) : Bool := x.toBitVec.getLsbD i
theorem b_ext {x y : Int32} (h : ∀ i, i < 32 → bt x i = bt y i) : x = y := Int32.toBitVec_inj.mp (BitVec.eq_of_getLsbD_eq (fun i hi => h i hi))
theorem b_or (x y : Int32) (i : Nat) : bt (x ||| y) i = (bt x i || bt y i) := by unfold bt; rw [Int32.toBitVec_or, BitVec.getLsbD_or]
theorem b_and (x y : Int32) (i : Nat) : bt (x &&& y) i = (bt x i && bt y i) := by unfold bt; rw [Int32.toBitVec_and, BitVec.getLsbD_and]
theorem b_xor (x y : Int32) (i : Nat) : bt (x ^^^ y) i = (bt x i ^^ bt y i) := by unfold bt; rw [Int32.toBitVec_xor, BitVec.getLsbD_xor]
theorem b_big {x : Int32} {i : Nat} (h : 32 ≤ i) : bt x i = false := BitVec.getLsbD_of_ge _ _ h
theorem b_m1 : ∀ i, i < 32 → bt (-1) i = true := by decide +kernel
theorem b_0 (i : Nat) : bt 0 i = false := BitVec.getLsbD_zero
theorem s_l : ∀ n, n < 32 → ((nI n &&& 31).toBitVec.smod 32).toNat = n := by decide +kernel
theorem b_shl (n : Nat) (hn : n < 32) (x : Int32) {i : Nat} (hi : i < 32) : bt (x <<< (nI n &&& 31)) i = (decide (n ≤ i) && bt x (i - n)) := by
  unfold bt
  rw [Int32.toBitVec_shiftLeft]
  show (x.toBitVec <<< ((nI n &&& 31).toBitVec.smod 32).toNat).getLsbD i = _
  rw [s_l n hn, BitVec.getLsbD_shiftLeft]
  rcases Nat.lt_or_ge i n with h | h
  · simp [h, Nat.not_le.mpr h]
  · simp [hi, h, Nat.not_lt.mpr h]
theorem b_sshr (n : Nat) (hn : n < 32) (x : Int32) {i : Nat} (hi : i < 32) : bt (x >>> (nI n &&& 31)) i = if n + i < 32 then bt x (n + i) else bt x 31 := by
  unfold bt
  rw [Int32.toBitVec_shiftRight]
  show (x.toBitVec.sshiftRight ((nI n &&& 31).toBitVec.smod 32).toNat).getLsbD i = _
  rw [s_l n hn, BitVec.getLsbD_sshiftRight, BitVec.msb_eq_getLsbD_last]
  simp [hi]
theorem pk_us {f : Nat → Int32} {k : Nat} {x : Int32} : upd f k x k = x := if_pos rfl
theorem pk_un {f : Nat → Int32} {k j : Nat} {x : Int32} (h : j ≠ k) : upd f k x j = f j := if_neg h
theorem pk_uLs {f : Nat → Int64} {k : Nat} {x : Int64} : vp_updL f k x k = x := if_pos rfl
theorem pk_uLn {f : Nat → Int64} {k j : Nat} {x : Int64} (h : j ≠ k) : vp_updL f k x j = f j := if_neg h
theorem pk_sub {a b : Nat} (h : b ≤ a) : nI a - nI b = nI (a - b) := by
  obtain ⟨c, rfl⟩ : ∃ c, a = c + b := ⟨a - b, by omega⟩
  rw [← nI_add, Int32.add_sub_cancel, Nat.add_sub_cancel]
theorem pk_m1 (n : Nat) : nI (n + 1) + (-1) = nI n := by
  rw [← nI_1, Int32.add_assoc, show (1 : Int32) + (-1) = 0 from rfl, Int32.add_zero]
theorem pk_ix (x : Int32) {n : Nat} (hn : n < 2 ^ 31) : x < 0 ∨ nI n ≤ x ∨ ∃ j : Nat, j < n ∧ x = nI j := by
  by_cases h : x < 0
  · exact Or.inl h
  · obtain ⟨j, hj, rfl⟩ := nI_of h
    by_cases h2 : j < n
    · exact Or.inr (Or.inr ⟨j, h2, rfl⟩)
    · exact Or.inr (Or.inl (nI_le (by omega) hj))
theorem pk_le {x y : Int32} {A B : Prop} (a b : Nat) (f : a ≤ b → A) (g : b < a → B) (hx : x = nI a := by rfl) (hy : y = nI b := by rfl) (ha : a < 2 ^ 31 := by omega) (hb : b < 2 ^ 31 := by omega) : (x ≤ y → A) ∧ (¬ x ≤ y → B) := by
  subst hx hy
  rw [nI_leI ha hb]
  exact ⟨f, fun z => g (by omega)⟩
theorem pk_lt {x y : Int32} {A B : Prop} (a b : Nat) (f : a < b → A) (g : b ≤ a → B) (hx : x = nI a := by rfl) (hy : y = nI b := by rfl) (ha : a < 2 ^ 31 := by omega) (hb : b < 2 ^ 31 := by omega) : (x < y → A) ∧ (¬ x < y → B) := by
  subst hx hy
  rw [nI_ltI ha hb]
  exact ⟨f, fun z => g (by omega)⟩
theorem pk_eq {x y : Int32} {A B : Prop} (a b : Nat) (f : a = b → A) (g : a ≠ b → B) (hx : x = nI a := by rfl) (hy : y = nI b := by rfl) (ha : a < 2 ^ 31 := by omega) (hb : b < 2 ^ 31 := by omega) : (x = y → A) ∧ (¬ x = y → B) := by
  subst hx hy
  rw [nI_eq ha hb]
  exact ⟨f, g⟩
theorem pk_in {x : Int32} (n N : Nat) (h : n < N) (hx : x = nI n := by rfl) (hN : N < 2 ^ 31 := by omega) : vp_in x N := by
  subst hx
  exact vp_in_nI h hN
theorem pk_cl {x : Int32} (n : Nat) (hx : x = nI n := by rfl) (h : n < 2 ^ 31 := by omega) : x.toNatClampNeg = n := by
  subst hx
  exact nI_clamp h
theorem pk_vb (z : Int32) : vp_nar .byte z.toInt8.toInt32 = z.toInt8.toInt32 := by rw [vp_nar_byte]; simp
theorem pk_lT {n : Nat} (h : n < 2 ^ 63) : (lN n).toInt = (n : Int) := lg_ofNat_toInt h
theorem pk_lLT {a b : Nat} (ha : a < 2 ^ 63) (hb : b < 2 ^ 63) : lN a < lN b ↔ a < b := by
  rw [Int64.lt_iff_toInt_lt, pk_lT ha, pk_lT hb]; omega
theorem pk_lLE {a b : Nat} (ha : a < 2 ^ 63) (hb : b < 2 ^ 63) : lN a ≤ lN b ↔ a ≤ b := by
  rw [Int64.le_iff_toInt_le, pk_lT ha, pk_lT hb]; omega
theorem pk_lEQ {a b : Nat} (ha : a < 2 ^ 63) (hb : b < 2 ^ 63) : lN a = lN b ↔ a = b := by
  rw [← Int64.toInt_inj, pk_lT ha, pk_lT hb]; omega
end
section
/-! the tree of blocks in plain numbers: iterated parents, branches, levels, last common block, the coins of a branch -/
def cu_it (p : Nat → Nat) : Nat → Nat → Nat
  | 0, b => b
  | k + 1, b => cu_it p k (p b)
theorem cu_it_s (p : Nat → Nat) (k b : Nat) : cu_it p (k + 1) b = p (cu_it p k b) := by
  induction k generalizing b with
  | zero => rfl
  | succ k ih => exact ih (p b)
theorem cu_it_add (p : Nat → Nat) (j k c : Nat) : cu_it p (j + k) c = cu_it p k (cu_it p j c) := by
  induction j generalizing c with
  | zero => rw [Nat.zero_add]; rfl
  | succ j ih => rw [Nat.succ_add]; exact ih (p c)
def cu_anc (p : Nat → Nat) (a b : Nat) : Prop := ∃ k, cu_it p k b = a
def cu_P (p : Nat → Nat) : Prop := p 0 = 0 ∧ ∀ b, 1 ≤ b → p b < b
theorem cu_P_le {p : Nat → Nat} (hp : cu_P p) (b : Nat) : p b ≤ b := by
  rcases Nat.eq_zero_or_pos b with h | h
  · rw [h, hp.1]; exact Nat.le_refl 0
  · exact Nat.le_of_lt (hp.2 b h)
theorem cu_it_le {p : Nat → Nat} (hp : cu_P p) (k b : Nat) : cu_it p k b ≤ b := by
  induction k generalizing b with
  | zero => exact Nat.le_refl b
  | succ k ih => exact Nat.le_trans (ih (p b)) (cu_P_le hp b)
theorem cu_anc_r (p : Nat → Nat) (b : Nat) : cu_anc p b b := ⟨0, rfl⟩
theorem cu_anc_i {p : Nat → Nat} {a b : Nat} : cu_anc p a b ↔ a = b ∨ cu_anc p a (p b) := by
  constructor
  · rintro ⟨k, hk⟩
    cases k with
    | zero => exact Or.inl hk.symm
    | succ k => exact Or.inr ⟨k, hk⟩
  · rintro (h | ⟨k, hk⟩)
    · exact ⟨0, h.symm⟩
    · exact ⟨k + 1, hk⟩
theorem cu_anc_u {p : Nat → Nat} {a b : Nat} (h : cu_anc p a (p b)) : cu_anc p a b := cu_anc_i.mpr (Or.inr h)
theorem cu_anc_d {p : Nat → Nat} {a b : Nat} (h : cu_anc p a b) (hne : a ≠ b) : cu_anc p a (p b) := (cu_anc_i.mp h).resolve_left hne
theorem cu_anc_t {p : Nat → Nat} {a b c : Nat} (h : cu_anc p a b) (g : cu_anc p b c) : cu_anc p a c := by
  obtain ⟨k, hk⟩ := h
  obtain ⟨j, hj⟩ := g
  exact ⟨j + k, by rw [cu_it_add, hj, hk]⟩
theorem cu_anc_le {p : Nat → Nat} (hp : cu_P p) {a b : Nat} (h : cu_anc p a b) : a ≤ b := by
  obtain ⟨k, hk⟩ := h
  rw [← hk]; exact cu_it_le hp k b
theorem cu_anc_z {p : Nat → Nat} (hp : cu_P p) {a : Nat} (h : cu_anc p a 0) : a = 0 := Nat.le_zero.mp (cu_anc_le hp h)
/-- levels -/
def cu_V (n : Nat) (p lv : Nat → Nat) : Prop := lv 0 = 0 ∧ ∀ b, 1 ≤ b → b < n → lv b = lv (p b) + 1
theorem cu_lv_le {n : Nat} {p lv : Nat → Nat} (hp : cu_P p) (hV : cu_V n p lv) : ∀ b, b < n → lv b ≤ b := by
  intro b
  induction b using Nat.strongRecOn with
  | ind b ih =>
    intro hb
    rcases Nat.eq_zero_or_pos b with h | h
    · rw [h, hV.1]; exact Nat.le_refl 0
    · have h1 := hp.2 b h
      have h2 := ih (p b) h1 (by omega)
      have h3 := hV.2 b h hb
      omega
theorem cu_lv_z {n : Nat} {p lv : Nat → Nat} (hV : cu_V n p lv) {b : Nat} (hb : b < n) (h : lv b = 0) : b = 0 := by
  rcases Nat.eq_zero_or_pos b with h0 | h0
  · exact h0
  · have := hV.2 b h0 hb
    omega
theorem cu_lv_a {n : Nat} {p lv : Nat → Nat} (hp : cu_P p) (hV : cu_V n p lv) {a : Nat} : ∀ b, b < n → cu_anc p a b → lv a ≤ lv b ∧ (a ≠ b → lv a < lv b) := by
  intro b
  induction b using Nat.strongRecOn with
  | ind b ih =>
    intro hb h
    by_cases e : a = b
    · rw [e]; exact ⟨Nat.le_refl _, fun z => absurd rfl z⟩
    · have h0 : 1 ≤ b := by
        rcases Nat.eq_zero_or_pos b with h0 | h0
        · rw [h0] at h e; exact absurd (cu_anc_z hp h) e
        · exact h0
      have h1 := hp.2 b h0
      have h2 := (ih (p b) h1 (by omega) (cu_anc_d h e)).1
      have h3 := hV.2 b h0 hb
      exact ⟨by omega, fun _ => by omega⟩
/-- m is the last block that the branches of a and b have in common -/
def cu_M (p : Nat → Nat) (a b m : Nat) : Prop := cu_anc p m a ∧ cu_anc p m b ∧ ∀ c, cu_anc p c a → cu_anc p c b → cu_anc p c m
theorem cu_M_s {p : Nat → Nat} {a b m : Nat} (h : cu_M p a b m) : cu_M p b a m := ⟨h.2.1, h.1, fun c x y => h.2.2 c y x⟩
theorem cu_M_ex {p : Nat → Nat} (hp : cu_P p) : ∀ d a b, a + b = d → ∃ m, cu_M p a b m := by
  intro d
  induction d using Nat.strongRecOn with
  | ind d ih =>
    intro a b hd
    rcases Nat.lt_trichotomy a b with h | h | h
    · have h1 := hp.2 b (by omega)
      obtain ⟨m, h2, h3, h4⟩ := ih (a + p b) (by omega) a (p b) rfl
      refine ⟨m, h2, cu_anc_u h3, fun c ca cb => h4 c ca (cu_anc_d cb ?_)⟩
      have := cu_anc_le hp ca
      omega
    · rw [h]; exact ⟨b, cu_anc_r p b, cu_anc_r p b, fun c x _ => x⟩
    · have h1 := hp.2 a (by omega)
      obtain ⟨m, h2, h3, h4⟩ := ih (p a + b) (by omega) (p a) b rfl
      refine ⟨m, cu_anc_u h2, h3, fun c ca cb => h4 c (cu_anc_d ca ?_) cb⟩
      have := cu_anc_le hp cb
      omega
theorem cu_M_e {p : Nat → Nat} (hp : cu_P p) {a m : Nat} (h : cu_M p a a m) : m = a :=
  Nat.le_antisymm (cu_anc_le hp h.1) (cu_anc_le hp (h.2.2 a (cu_anc_r p a) (cu_anc_r p a)))
theorem cu_M_y {n : Nat} {p lv : Nat → Nat} (hp : cu_P p) (hV : cu_V n p lv) {x y m : Nat} (hx : x < n) (hy : y < n) (hl : lv x < lv y) (h : cu_M p x y m) : 1 ≤ y ∧ cu_M p x (p y) m := by
  have h0 : 1 ≤ y := by
    rcases Nat.eq_zero_or_pos y with h0 | h0
    · rw [h0, hV.1] at hl; omega
    · exact h0
  refine ⟨h0, h.1, cu_anc_d h.2.1 ?_, fun c a b => h.2.2 c a (cu_anc_u b)⟩
  intro e
  have := (cu_lv_a hp hV x hx h.1).1
  rw [e] at this
  omega
theorem cu_M_x {n : Nat} {p lv : Nat → Nat} (hp : cu_P p) (hV : cu_V n p lv) {x y m : Nat} (hx : x < n) (hy : y < n) (hne : x ≠ y) (hl : lv y ≤ lv x) (h : cu_M p x y m) : 1 ≤ x ∧ cu_M p (p x) y m := by
  have h0 : 1 ≤ x := by
    rcases Nat.eq_zero_or_pos x with h0 | h0
    · have h2 : lv y = 0 := by rw [h0, hV.1] at hl; omega
      have h3 := cu_lv_z hV hy h2
      omega
    · exact h0
  refine ⟨h0, cu_anc_d h.1 ?_, h.2.1, fun c a b => h.2.2 c (cu_anc_u a) b⟩
  intro e
  have h1 := (cu_lv_a hp hV y hy h.2.1).2
  rw [e] at h1
  have := h1 hne
  omega
/-- the coins that are made and not spent in the branch of b -/
def cu_F (p : Nat → Nat) (s1 s2 : Nat → Int32) (b c : Nat) : Prop := 1 ≤ c ∧ cu_anc p c b ∧ ∀ d, cu_anc p d b → s1 d ≠ nI c ∧ s2 d ≠ nI c
/-- what a block under b may spend -/
def cu_S (p : Nat → Nat) (s1 s2 : Nat → Int32) (b : Nat) (x : Int32) : Prop := x = -1 ∨ ∃ c, x = nI c ∧ cu_F p s1 s2 b c
def cu_Q (n : Nat) (p : Nat → Nat) (s1 s2 : Nat → Int32) : Prop := (s1 0 = -1 ∧ s2 0 = -1) ∧ ∀ b, 1 ≤ b → b < n → cu_S p s1 s2 (p b) (s1 b) ∧ cu_S p s1 s2 (p b) (s2 b) ∧ (s1 b = s2 b → s1 b = -1)
theorem cu_m1 {c : Nat} (h : c < 20) : (-1 : Int32) ≠ nI c := by
  intro e
  have h1 := congrArg Int32.toInt e
  rw [nI_toInt (by omega), show (-1 : Int32).toInt = -1 from by decide] at h1
  omega
theorem cu_inj {a b : Nat} (ha : a < 20) (hb : b < 20) (h : nI a = nI b) : a = b := (nI_eq (by omega) (by omega)).mp h
theorem cu_F_le {p : Nat → Nat} {s1 s2 : Nat → Int32} (hp : cu_P p) {b c : Nat} (h : cu_F p s1 s2 b c) : c ≤ b := cu_anc_le hp h.2.1
/-- a spent coin is another one than the blocks from b on -/
theorem cu_S_ne {p : Nat → Nat} {s1 s2 : Nat → Int32} (hp : cu_P p) {d b : Nat} {x : Int32} (hd : 1 ≤ d) (hdb : d ≤ b) (hb : b < 20) (h : cu_S p s1 s2 (p d) x) : x ≠ nI b := by
  rcases h with h | ⟨c, h, hF⟩
  · rw [h]; exact cu_m1 hb
  · rw [h]
    intro e
    have h1 := cu_F_le hp hF
    have h2 := hp.2 d hd
    have h3 := cu_inj (by omega) hb e
    omega
theorem cu_F_s {n : Nat} {p : Nat → Nat} {s1 s2 : Nat → Int32} (hn : n ≤ 20) (hp : cu_P p) (hQ : cu_Q n p s1 s2) {b c : Nat} (h0 : 1 ≤ b) (hb : b < n) : cu_F p s1 s2 b c ↔ c = b ∨ (cu_F p s1 s2 (p b) c ∧ s1 b ≠ nI c ∧ s2 b ≠ nI c) := by
  constructor
  · intro h
    by_cases e : c = b
    · exact Or.inl e
    · exact Or.inr ⟨⟨h.1, cu_anc_d h.2.1 e, fun d hd => h.2.2 d (cu_anc_u hd)⟩, h.2.2 b (cu_anc_r p b)⟩
  · rintro (h | ⟨h, h1, h2⟩)
    · rw [h]
      refine ⟨h0, cu_anc_r p b, fun d hd => ?_⟩
      have hdb := cu_anc_le hp hd
      rcases Nat.eq_zero_or_pos d with d0 | d0
      · rw [d0, hQ.1.1, hQ.1.2]; exact ⟨cu_m1 (by omega), cu_m1 (by omega)⟩
      · obtain ⟨q1, q2, _⟩ := hQ.2 d d0 (by omega)
        exact ⟨cu_S_ne hp d0 hdb (by omega) q1, cu_S_ne hp d0 hdb (by omega) q2⟩
    · refine ⟨h.1, cu_anc_u h.2.1, fun d hd => ?_⟩
      by_cases e : d = b
      · rw [e]; exact ⟨h1, h2⟩
      · exact h.2.2 d (cu_anc_d hd e)
/-- back from b to its parent -/
theorem cu_F_b {n : Nat} {p : Nat → Nat} {s1 s2 : Nat → Int32} (hn : n ≤ 20) (hp : cu_P p) (hQ : cu_Q n p s1 s2) {b : Nat} (h0 : 1 ≤ b) (hb : b < n) {d : Nat} (hd : d < 20) : ((cu_F p s1 s2 b d ∧ d ≠ b) ∨ s1 b = nI d) ∨ s2 b = nI d ↔ cu_F p s1 s2 (p b) d := by
  have S : ∀ x, cu_S p s1 s2 (p b) x → x = nI d → cu_F p s1 s2 (p b) d := by
    intro x hx e
    rcases hx with h | ⟨c, h, hF⟩
    · rw [h] at e; exact absurd e (cu_m1 hd)
    · rw [h] at e
      have h1 := cu_F_le hp hF
      have h2 := hp.2 b h0
      have h3 := cu_inj (by omega) hd e
      rw [← h3]; exact hF
  obtain ⟨q1, q2, _⟩ := hQ.2 b h0 hb
  constructor
  · rintro ((⟨h, hne⟩ | h) | h)
    · rcases (cu_F_s hn hp hQ h0 hb).mp h with e | e
      · exact absurd e hne
      · exact e.1
    · exact S _ q1 h
    · exact S _ q2 h
  · intro h
    by_cases e2 : s2 b = nI d
    · exact Or.inr e2
    · by_cases e1 : s1 b = nI d
      · exact Or.inl (Or.inr e1)
      · refine Or.inl (Or.inl ⟨(cu_F_s hn hp hQ h0 hb).mpr (Or.inr ⟨h, e1, e2⟩), ?_⟩)
        have h1 := cu_F_le hp h
        have h2 := hp.2 b h0
        omega
/-- another tree that is the same below n -/
theorem cu_anc_c {n : Nat} {p q : Nat → Nat} (hp : cu_P p) (e : ∀ b, b < n → q b = p b) {a b : Nat} (hb : b < n) : cu_anc q a b ↔ cu_anc p a b := by
  have h : ∀ k b, b < n → cu_it q k b = cu_it p k b := by
    intro k
    induction k with
    | zero => intro b _; rfl
    | succ k ih =>
      intro b hb
      show cu_it q k (q b) = cu_it p k (p b)
      rw [e b hb]
      exact ih (p b) (Nat.lt_of_le_of_lt (cu_P_le hp b) hb)
  constructor
  · rintro ⟨k, hk⟩; exact ⟨k, by rw [← h k b hb]; exact hk⟩
  · rintro ⟨k, hk⟩; exact ⟨k, by rw [h k b hb]; exact hk⟩
theorem cu_F_c {n : Nat} {p q : Nat → Nat} {s1 s2 r1 r2 : Nat → Int32} (hp : cu_P p) (e : ∀ b, b < n → q b = p b) (e1 : ∀ b, b < n → r1 b = s1 b) (e2 : ∀ b, b < n → r2 b = s2 b) {b c : Nat} (hb : b < n) : cu_F q r1 r2 b c ↔ cu_F p s1 s2 b c := by
  have h : ∀ d, cu_anc p d b → r1 d = s1 d ∧ r2 d = s2 d := fun d hd => by
    have := cu_anc_le hp hd
    exact ⟨e1 d (by omega), e2 d (by omega)⟩
  constructor
  · rintro ⟨h1, h2, h3⟩
    refine ⟨h1, (cu_anc_c hp e hb).mp h2, fun d hd => ?_⟩
    obtain ⟨x, y⟩ := h d hd
    rw [← x, ← y]
    exact h3 d ((cu_anc_c hp e hb).mpr hd)
  · rintro ⟨h1, h2, h3⟩
    refine ⟨h1, (cu_anc_c hp e hb).mpr h2, fun d hd => ?_⟩
    have hd' := (cu_anc_c hp e hb).mp hd
    obtain ⟨x, y⟩ := h d hd'
    rw [x, y]
    exact h3 d hd'
end
section
/-! sums, bits, and the ledger with the owners' wealth -/
def cu_sn (f : Nat → Nat) : Nat → Nat
  | 0 => 0
  | n + 1 => cu_sn f n + f n
theorem cu_sn_c {f g : Nat → Nat} : ∀ n, (∀ j, j < n → f j = g j) → cu_sn f n = cu_sn g n := by
  intro n
  induction n with
  | zero => intro _; rfl
  | succ n ih =>
    intro h
    show cu_sn f n + f n = cu_sn g n + g n
    rw [ih (fun j hj => h j (by omega)), h n (by omega)]
theorem cu_sn_l {f g : Nat → Nat} : ∀ n, (∀ j, j < n → f j ≤ g j) → cu_sn f n ≤ cu_sn g n := by
  intro n
  induction n with
  | zero => intro _; exact Nat.le_refl 0
  | succ n ih =>
    intro h
    show cu_sn f n + f n ≤ cu_sn g n + g n
    have h1 := ih (fun j hj => h j (by omega))
    have h2 := h n (by omega)
    omega
/-- g is f but for x more at c -/
theorem cu_sn_a {f g : Nat → Nat} {c x : Nat} (hc : g c = f c + x) : ∀ n, c < n → (∀ j, j < n → j ≠ c → g j = f j) → cu_sn g n = cu_sn f n + x := by
  intro n
  induction n with
  | zero => intro z; omega
  | succ n ih =>
    intro hn h
    show cu_sn g n + g n = cu_sn f n + f n + x
    by_cases e : c = n
    · rw [cu_sn_c (f := g) (g := f) n (fun j hj => h j (by omega) (by omega)), ← e, hc]
      omega
    · rw [ih (by omega) (fun j hj hne => h j (by omega) hne), h n (by omega) (fun z => e z.symm)]
      omega
theorem cu_sn_z {f : Nat → Nat} {n : Nat} : ∀ N, n ≤ N → (∀ j, n ≤ j → j < N → f j = 0) → cu_sn f N = cu_sn f n := by
  intro N
  induction N with
  | zero => intro h _; rw [Nat.le_zero.mp h]
  | succ N ih =>
    intro h z
    by_cases e : n = N + 1
    · rw [e]
    · show cu_sn f N + f N = _
      rw [ih (by omega) (fun j a b => z j a (by omega)), z N (by omega) (by omega)]
      rfl
theorem cu_sn_b {f : Nat → Nat} : ∀ n, (∀ j, j < n → f j ≤ 100 * 2 ^ j) → cu_sn f n < 100 * 2 ^ n := by
  intro n
  induction n with
  | zero => intro _; show 0 < 100 * 2 ^ 0; decide
  | succ n ih =>
    intro h
    show cu_sn f n + f n < _
    have h1 := ih (fun j hj => h j (by omega))
    have h2 := h n (by omega)
    rw [Nat.pow_succ]
    omega
/-- bits -/
theorem cu_bt1 : ∀ i, i < 32 → bt 1 i = decide (i = 0) := by decide +kernel
theorem cu_bsh {c i : Nat} (hc : c < 32) (hi : i < 32) : bt ((1 : Int32) <<< (nI c &&& 31)) i = decide (i = c) := by
  rw [b_shl c hc _ hi, cu_bt1 (i - c) (by omega)]
  by_cases h1 : c ≤ i
  · by_cases h2 : i = c
    · subst h2
      simp
    · have h3 : ¬ i - c = 0 := by omega
      simp [h2, h3]
  · have h2 : ¬ i = c := by omega
    simp [h1, h2]
theorem cu_btk {x : Int32} {c i : Nat} (hc : c < 32) (hi : i < 32) : bt (x &&& (((1 : Int32) <<< (nI c &&& 31)) ^^^ (-1))) i = (bt x i && decide (i ≠ c)) := by
  rw [b_and, b_xor, cu_bsh hc hi, b_m1 i hi]
  by_cases h : i = c <;> simp [h]
theorem cu_bgv {x : Int32} {c i : Nat} (hc : c < 32) (hi : i < 32) : bt (x ||| ((1 : Int32) <<< (nI c &&& 31))) i = (bt x i || decide (i = c)) := by
  rw [b_or, cu_bsh hc hi]
theorem cu_bit {x : Int32} {c : Nat} (hc : c < 32) : ((x >>> (nI c &&& 31)) &&& 1) = 0 ↔ bt x c = false := by
  have h0 : bt (x >>> (nI c &&& 31)) 0 = bt x c := by
    rw [b_sshr c hc x (by omega), if_pos (by omega)]
    rfl
  constructor
  · intro h
    have h1 : bt ((x >>> (nI c &&& 31)) &&& 1) 0 = false := by rw [h]; exact b_0 0
    rw [b_and, h0, cu_bt1 0 (by omega)] at h1
    simpa using h1
  · intro h
    apply b_ext
    intro i hi
    rw [b_and, cu_bt1 i hi, b_0]
    by_cases e : i = 0
    · rw [e, h0, h]; rfl
    · simp [e]
/-- what coin c weighs for an owner, if the set L has it -/
def cu_w (L : Nat → Bool) (own : Nat → Int32) (am : Nat → Nat) (x : Int32) (c : Nat) : Nat := if L c = true ∧ own c = x then am c else 0
theorem cu_w_t {L : Nat → Bool} {own : Nat → Int32} {am : Nat → Nat} {x : Int32} {c : Nat} (h : L c = true) (g : own c = x) : cu_w L own am x c = am c := if_pos ⟨h, g⟩
theorem cu_w_f {L : Nat → Bool} {own : Nat → Int32} {am : Nat → Nat} {x : Int32} {c : Nat} (h : L c = false) : cu_w L own am x c = 0 := if_neg (fun z => by rw [h] at z; exact Bool.noConfusion z.1)
theorem cu_w_n {L : Nat → Bool} {own : Nat → Int32} {am : Nat → Nat} {x : Int32} {c : Nat} (h : own c ≠ x) : cu_w L own am x c = 0 := if_neg (fun z => h z.2)
theorem cu_w_e {L K : Nat → Bool} {own : Nat → Int32} {am : Nat → Nat} {x : Int32} {c : Nat} (h : L c = K c) : cu_w L own am x c = cu_w K own am x c := by unfold cu_w; rw [h]
/-- the ledger holds the coins of S, and each owner's wealth is their sum -/
def cu_LS (own : Nat → Int32) (am : Nat → Nat) (S : Nat → Prop) (led : Int32) (wl : Nat → Int64) : Prop := (∀ c, c < 20 → (bt led c = true ↔ S c)) ∧ ∀ o, o < 4 → wl o = lN (cu_sn (cu_w (bt led) own am (nI o)) 20)
theorem cu_LS_c {own : Nat → Int32} {am : Nat → Nat} {S T : Nat → Prop} {led : Int32} {wl : Nat → Int64} (h : cu_LS own am S led wl) (e : ∀ c, c < 20 → (S c ↔ T c)) : cu_LS own am T led wl := ⟨fun c hc => (h.1 c hc).trans (e c hc), h.2⟩
/-- two sets that differ at c alone -/
theorem cu_w_d {own : Nat → Int32} {am : Nat → Nat} {K L : Nat → Bool} {c o q : Nat} (hc : c < 20) (ho : o < 4) (hq : q < 4) (hoc : own c = nI o) (hK : K c = true) (hL : L c = false) (h : ∀ j, j < 20 → j ≠ c → K j = L j) : cu_sn (cu_w K own am (nI q)) 20 = cu_sn (cu_w L own am (nI q)) 20 + (if q = o then am c else 0) := by
  refine cu_sn_a (c := c) ?_ 20 hc (fun j hj hne => cu_w_e (h j hj hne))
  rw [cu_w_f hL]
  by_cases e : q = o
  · rw [if_pos e, cu_w_t hK (by rw [e]; exact hoc)]
    omega
  · rw [if_neg e, cu_w_n (fun z => e (cu_inj (by omega) (by omega) (z.symm.trans hoc)))]
theorem cu_LS_t {own : Nat → Int32} {am : Nat → Nat} {S : Nat → Prop} {led : Int32} {wl : Nat → Int64} {c o : Nat} (hc : c < 20) (ho : o < 4) (hoc : own c = nI o) (ham : am c < 2 ^ 31) (hS : S c) (L : cu_LS own am S led wl) : cu_LS own am (fun d => S d ∧ d ≠ c) (led &&& (((1 : Int32) <<< (nI c &&& 31)) ^^^ (-1))) (vp_updL wl o (wl o - (nI (am c)).toInt64)) := by
  constructor
  · intro d hd
    rw [cu_btk (by omega) (by omega), Bool.and_eq_true, decide_eq_true_eq, L.1 d hd]
  · intro q hq
    have e := cu_w_d (K := bt led) (L := bt (led &&& (((1 : Int32) <<< (nI c &&& 31)) ^^^ (-1)))) (am := am) hc ho hq hoc ((L.1 c hc).mpr hS)
      (by rw [cu_btk (by omega) (by omega)]; simp) (fun j hj hne => by rw [cu_btk (by omega) (by omega)]; simp [hne])
    by_cases z : q = o
    · rw [z] at e ⊢
      rw [if_pos rfl] at e
      rw [pk_uLs, L.2 o ho, e, nI_l ham, lN_sub (by omega), Nat.add_sub_cancel]
    · rw [if_neg z, Nat.add_zero] at e
      rw [pk_uLn z, L.2 q hq, e]
theorem cu_LS_g {own : Nat → Int32} {am : Nat → Nat} {S : Nat → Prop} {led : Int32} {wl : Nat → Int64} {c o : Nat} (hc : c < 20) (ho : o < 4) (hoc : own c = nI o) (ham : am c < 2 ^ 31) (hS : ¬ S c) (L : cu_LS own am S led wl) : cu_LS own am (fun d => S d ∨ d = c) (led ||| ((1 : Int32) <<< (nI c &&& 31))) (vp_updL wl o (wl o + (nI (am c)).toInt64)) := by
  have hf : bt led c = false := by
    cases hb : bt led c with
    | false => rfl
    | true => exact absurd ((L.1 c hc).mp hb) hS
  constructor
  · intro d hd
    rw [cu_bgv (by omega) (by omega), Bool.or_eq_true, decide_eq_true_eq, L.1 d hd]
  · intro q hq
    have e := cu_w_d (K := bt (led ||| ((1 : Int32) <<< (nI c &&& 31)))) (L := bt led) (am := am) hc ho hq hoc
      (by rw [cu_bgv (by omega) (by omega)]; simp) hf (fun j hj hne => by rw [cu_bgv (by omega) (by omega)]; simp [hne])
    by_cases z : q = o
    · rw [z] at e ⊢
      rw [if_pos rfl] at e
      rw [pk_uLs, L.2 o ho, e, nI_l ham, lN_add]
    · rw [if_neg z, Nat.add_zero] at e
      rw [pk_uLn z, L.2 q hq, e]
/-- other owners and amounts, alike on the coins of S -/
theorem cu_LS_o {own ow2 : Nat → Int32} {am am2 : Nat → Nat} {S : Nat → Prop} {led : Int32} {wl : Nat → Int64} (L : cu_LS own am S led wl) (h : ∀ c, c < 20 → S c → ow2 c = own c ∧ am2 c = am c) : cu_LS ow2 am2 S led wl := by
  refine ⟨L.1, fun o ho => ?_⟩
  rw [L.2 o ho]
  refine congrArg lN (cu_sn_c 20 (fun j hj => ?_))
  cases hb : bt led j with
  | false => rw [cu_w_f hb, cu_w_f hb]
  | true =>
    obtain ⟨x, y⟩ := h j hj ((L.1 j hj).mp hb)
    unfold cu_w
    rw [x, y]
end
section
/-! the reference's walks: heightOf, inBranch, free, meet -/
abbrev cu_ps (p : Nat → Nat) : Nat → Int32 := fun b => if b = 0 then -1 else nI (p b)
theorem cu_ps_0 (p : Nat → Nat) : cu_ps p (nI 0).toNatClampNeg = -1 := by
  rw [nI_clamp (by omega)]; exact if_pos rfl
theorem cu_ps_n {p : Nat → Nat} {b : Nat} (h0 : 1 ≤ b) (h : b < 20) : cu_ps p (nI b).toNatClampNeg = nI (p b) := by
  rw [nI_clamp (by omega)]; exact if_neg (by omega)
theorem cu_rd {f : Nat → Int32} {b : Nat} (h : b < 20) : f (nI b).toNatClampNeg = f b := by rw [nI_clamp (by omega)]
section
variable {n : Nat} {ft fu : Int32} {p lv : Nat → Nat} {ow aa s1 s2 tk : Nat → Int32}
theorem cu_y_h7 {post : Int32 → Prop} (hn : n ≤ 20) (hp : cu_P p) (hV : cu_V n p lv) : ∀ f b h k : Nat, b < n → lv b < f → k + lv b < 20 → post (nI (h + lv b)) → wY_heightOf_7 post (nI n) ft fu (cu_ps p) ow aa s1 s2 tk f (nI h) (nI b) (nI k) := by
  intro f
  induction f with
  | zero => intro b h k _ z; omega
  | succ f ih =>
    intro b h k hb hf hk hpost
    refine pk_le 20 k (fun z => by omega) (fun _ => pk_le b 0 (fun z => ?_) (fun z => ?_))
    · have e : b = 0 := by omega
      rw [e, hV.1] at hpost
      exact hpost
    · have h1 := hV.2 b z hb
      have h2 := hp.2 b z
      refine nm_r (nI_1 h) ⟨vp_in_nI (by omega) (by omega), nm_r (cu_ps_n z (by omega)) (nm_r (nI_1 k) ?_)⟩
      refine ih (p b) (h + 1) (k + 1) (by omega) (by omega) (by omega) ?_
      rw [show h + 1 + lv (p b) = h + lv b by omega]; exact hpost
theorem cu_y_h {post : Int32 → Prop} (hn : n ≤ 20) (hp : cu_P p) (hV : cu_V n p lv) {b : Nat} (hb : b < n) (hpost : post (nI (lv b))) : wpY_heightOf post (nI n, ft, fu, cu_ps p, ow, aa, s1, s2, tk) (nI b) := by
  have := cu_lv_le hp hV b hb
  exact ⟨20, cu_y_h7 hn hp hV 20 b 0 0 hb (by omega) (by omega) (by rw [Nat.zero_add]; exact hpost)⟩
theorem cu_y_i5 {post : Int32 → Prop} {a : Nat} (ha : a < 20) (hn : n ≤ 20) (hp : cu_P p) (hV : cu_V n p lv) : ∀ f b k : Nat, b < n → lv b + 1 < f → k + lv b < 20 → (cu_anc p a b → post 1) → (¬ cu_anc p a b → post 0) → wY_inBranch_5 post (nI a) (nI n) ft fu (cu_ps p) ow aa s1 s2 tk f (nI b) (nI k) := by
  intro f
  induction f with
  | zero => intro b k _ z; omega
  | succ f ih =>
    intro b k hb hf hk h1 h0
    refine pk_le 20 k (fun z => by omega) (fun _ => br_f (nI_pos (by omega)) (pk_eq b a (fun z => ?_) (fun z => ⟨vp_in_nI (by omega) (by omega), ?_⟩)))
    · exact h1 (by rw [z]; exact cu_anc_r p a)
    · rcases Nat.eq_zero_or_pos b with e | e
      · have hno : ¬ cu_anc p a b := by
          rw [e]; intro g; have := cu_anc_z hp g; omega
        rw [e]
        refine nm_r (cu_ps_0 p) (nm_r (nI_1 k) ?_)
        cases f with
        | zero => omega
        | succ f => exact br_c (fun _ => h0 hno) (fun _ => br_t (by decide) (h0 hno))
      · have g1 := hV.2 b e hb
        have g2 := hp.2 b e
        refine nm_r (cu_ps_n e (by omega)) (nm_r (nI_1 k) (ih (p b) (k + 1) (by omega) (by omega) (by omega) ?_ ?_))
        · exact fun g => h1 (cu_anc_u g)
        · exact fun g => h0 (fun g' => g (cu_anc_d g' (fun q => z q.symm)))
theorem cu_y_i {post : Int32 → Prop} (hn : n ≤ 20) (hp : cu_P p) (hV : cu_V n p lv) {a b : Nat} (ha : a < 20) (hb : b < n) (h1 : cu_anc p a b → post 1) (h0 : ¬ cu_anc p a b → post 0) : wpY_inBranch post (nI n, ft, fu, cu_ps p, ow, aa, s1, s2, tk) (nI a) (nI b) := by
  have := cu_lv_le hp hV b hb
  exact ⟨22, cu_y_i5 ha hn hp hV 22 b 0 hb (by omega) (by omega) h1 h0⟩
theorem cu_y_f54 {post J : Int32 → Prop} (hn : n ≤ 20) (hp : cu_P p) (hV : cu_V n p lv) {x : Int32} {b j : Nat} (hb : b < n) (hj : j < n) (h1 : cu_anc p j b → post 0) (h0 : ¬ cu_anc p j b → J (nI (j + 1))) : wY_free_54 post J x (nI b) (nI j) (nI n) ft fu (cu_ps p) ow aa s1 s2 tk := by
  unfold wY_free_54
  refine cu_y_i hn hp hV (by omega) hb (fun g => br_f (by decide) (h1 g)) (fun g => br_t rfl (nm_r (nI_1 j) (h0 g)))
theorem cu_y_f26 {post : Int32 → Prop} {c b : Nat} (hb : b < n) (hn : n ≤ 20) (hp : cu_P p) (hV : cu_V n p lv) : ∀ f j : Nat, j ≤ n → n - j < f → ((∀ d, j ≤ d → d < n → cu_anc p d b → s1 d ≠ nI c ∧ s2 d ≠ nI c) → post 1) → (∀ d, j ≤ d → d < n → cu_anc p d b → (s1 d = nI c ∨ s2 d = nI c) → post 0) → wY_free_26 post (nI c) (nI b) (nI n) ft fu (cu_ps p) ow aa s1 s2 tk f (nI j) := by
  intro f
  induction f with
  | zero => intro j _ z; omega
  | succ f ih =>
    intro j hj hf h1 h0
    refine pk_le n j (fun z => h1 (fun d a e => by omega)) (fun z => ⟨vp_in_nI (by omega) (by omega), ?_⟩)
    have K : (cu_anc p j b → s1 j ≠ nI c ∧ s2 j ≠ nI c) → wY_free_26 post (nI c) (nI b) (nI n) ft fu (cu_ps p) ow aa s1 s2 tk f (nI (j + 1)) := by
      intro hj2
      refine ih (j + 1) (by omega) (by omega) (fun g => h1 (fun d a e q => ?_)) (fun d a e => h0 d (by omega) e)
      by_cases w : d = j
      · rw [w] at q ⊢; exact hj2 q
      · exact g d (by omega) e q
    rw [cu_rd (f := s1) (by omega), cu_rd (f := s2) (by omega)]
    refine br_c (fun e1 => ?_) (fun e1 => ⟨vp_in_nI (by omega) (by omega), br_c (fun e2 => ?_) (fun e2 => nm_r (nI_1 j) (K (fun _ => ⟨e1, e2⟩)))⟩)
    · exact cu_y_f54 hn hp hV hb z (fun g => h0 j (Nat.le_refl j) z g (Or.inl e1)) (fun g => K (fun g' => absurd g' g))
    · exact cu_y_f54 hn hp hV hb z (fun g => h0 j (Nat.le_refl j) z g (Or.inr e2)) (fun g => K (fun g' => absurd g' g))
/-- the coin x is there after block b -/
def cu_H (n : Nat) (p : Nat → Nat) (s1 s2 : Nat → Int32) (b : Nat) (x : Int32) : Prop := ∃ c, c < n ∧ x = nI c ∧ cu_F p s1 s2 b c
theorem cu_H_n {b c : Nat} (hn : n ≤ 20) (hc : c < n) : cu_H n p s1 s2 b (nI c) ↔ cu_F p s1 s2 b c := by
  constructor
  · rintro ⟨d, hd, e, h⟩
    have := cu_inj (by omega) (by omega) e
    rw [this]; exact h
  · intro h; exact ⟨c, hc, rfl, h⟩
theorem cu_y_f {post : Int32 → Prop} (hn : n ≤ 20) (hp : cu_P p) (hV : cu_V n p lv) (hQ : s1 0 = -1 ∧ s2 0 = -1) {b : Nat} (hb : b < n) {x : Int32} (h1 : cu_H n p s1 s2 b x → post 1) (h0 : ¬ cu_H n p s1 s2 b x → post 0) : wpY_free post (nI n, ft, fu, cu_ps p, ow, aa, s1, s2, tk) x (nI b) := by
  refine br_c (fun z => h0 ?_) (fun z => br_c (fun z2 => h0 ?_) (fun z2 => ?_))
  · rintro ⟨c, hc, e, hF⟩
    rw [e] at z
    exact nI_nlt (a := c) (b := 1) hF.1 (by omega) z
  · rintro ⟨c, hc, e, hF⟩
    rw [e] at z2
    exact nI_ge hc (by omega) z2
  · obtain ⟨c, hc, rfl⟩ : ∃ c, c < n ∧ x = nI c := by
      rcases pk_ix x (n := n) (by omega) with g | g | g
      · exact absurd (Int32.lt_trans g (by decide)) z
      · exact absurd g z2
      · exact g
    have hc1 : 1 ≤ c := by
      rcases Nat.eq_zero_or_pos c with e | e
      · rw [e] at z; exact absurd (by decide) z
      · exact e
    refine cu_y_i hn hp hV (by omega) hb (fun g => br_f (by decide) ⟨n + 1, ?_⟩) (fun g => br_t rfl (h0 (fun w => g ((cu_H_n hn hc).mp w).2.1)))
    refine cu_y_f26 hb hn hp hV (n + 1) 1 (by omega) (by omega) (fun w => h1 ((cu_H_n hn hc).mpr ⟨hc1, g, fun d hd => ?_⟩)) (fun d a e q r => h0 (fun w => ?_))
    · have hdb := cu_anc_le hp hd
      rcases Nat.eq_zero_or_pos d with d0 | d0
      · rw [d0, hQ.1, hQ.2]; exact ⟨cu_m1 (by omega), cu_m1 (by omega)⟩
      · exact w d d0 (by omega) hd
    · have := ((cu_H_n hn hc).mp w).2.2 d q
      rcases r with r | r
      · exact this.1 r
      · exact this.2 r
theorem cu_y_m5 {post : Int32 → Prop} {a b m : Nat} (ha : a < n) (hb : b < n) (hn : n ≤ 20) (hp : cu_P p) (hV : cu_V n p lv) (hM : cu_M p a b m) (hpost : post (nI m)) : ∀ f j q : Nat, j ≤ n → n - j < f → (m < j → q = m) → wY_meet_5 post (nI a) (nI b) (nI n) ft fu (cu_ps p) ow aa s1 s2 tk f (nI q) (nI j) := by
  intro f
  induction f with
  | zero => intro j q _ z; omega
  | succ f ih =>
    intro j q hj hf hq
    refine pk_le n j (fun z => ?_) (fun z => ?_)
    · have := cu_anc_le hp hM.1
      rw [hq (by omega)]; exact hpost
    · refine cu_y_i hn hp hV (by omega) ha (fun g => br_f (by decide) ?_) (fun g => br_t rfl (nm_r (nI_1 j) (ih (j + 1) q (by omega) (by omega) (fun w => hq ?_))))
      · refine cu_y_i hn hp hV (by omega) hb (fun g2 => br_f (by decide) (nm_r (nI_1 j) (ih (j + 1) j (by omega) (by omega) (fun w => ?_)))) (fun g2 => br_t rfl (nm_r (nI_1 j) (ih (j + 1) q (by omega) (by omega) (fun w => hq ?_))))
        · have := cu_anc_le hp (hM.2.2 j g g2)
          omega
        · have : m ≠ j := fun e => g2 (by rw [← e]; exact hM.2.1)
          omega
      · have : m ≠ j := fun e => g (by rw [← e]; exact hM.1)
        omega
theorem cu_y_m {post : Int32 → Prop} {a b m : Nat} (ha : a < n) (hb : b < n) (hn : n ≤ 20) (hp : cu_P p) (hV : cu_V n p lv) (hM : cu_M p a b m) (hpost : post (nI m)) : wpY_meet post (nI n, ft, fu, cu_ps p, ow, aa, s1, s2, tk) (nI a) (nI b) :=
  ⟨n + 1, cu_y_m5 ha hb hn hp hV hM hpost (n + 1) 0 0 (by omega) (by omega) (fun w => by omega)⟩
theorem cu_y_b {post : Int32 → Prop} (hn : n ≤ 20) {x : Int32} (h1 : ∀ c, c < n → x = nI c → post 1) (h0 : (x < 0 ∨ nI n ≤ x) → post 0) : wpY_isBlock post (nI n, ft, fu, cu_ps p, ow, aa, s1, s2, tk) x := by
  refine br_c (fun z => h0 (Or.inl z)) (fun z => br_c (fun z2 => h0 (Or.inr z2)) (fun z2 => ?_))
  rcases pk_ix x (n := n) (by omega) with g | g | ⟨c, hc, e⟩
  · exact absurd g z
  · exact absurd g z2
  · exact h1 c hc e
end
end
section
/-! the component's walks: isBlock, isThere, partingOf, takeCoin, giveCoin, undo, apply, moveTo -/
abbrev cu_X (n q : Nat) (led : Int32) (t : Nat) (fu : Int32) (p lv : Nat → Nat) (own : Nat → Int32) (am : Nat → Nat) (s1 s2 : Nat → Int32) (wl : Nat → Int64) (wy : Nat → Int32) : SX :=
  (nI n, nI q, led, nI t, fu, fun b => nI (p b), fun b => nI (lv b), own, fun b => nI (am b), s1, s2, wl, wy)
/-- the blocks are sound -/
def cu_G (n : Nat) (p lv : Nat → Nat) (own : Nat → Int32) (am : Nat → Nat) (s1 s2 : Nat → Int32) : Prop :=
  (1 ≤ n ∧ n ≤ 20) ∧ cu_P p ∧ cu_V n p lv ∧ (∀ b, ∃ o, o < 4 ∧ own b = nI o) ∧ (am 0 = 0 ∧ ∀ b, am b < 2 ^ 31) ∧ (∀ b, 1 ≤ b → b < n → 1 ≤ am b ∧ am b ≤ 100 * 2 ^ b) ∧ cu_Q n p s1 s2
section
variable {n q t : Nat} {led fu : Int32} {p lv : Nat → Nat} {own : Nat → Int32} {am : Nat → Nat} {s1 s2 : Nat → Int32} {wl : Nat → Int64} {wy : Nat → Int32}
theorem cu_x_b {post : Int32 → Prop} (hn : n ≤ 20) {x : Int32} (h1 : ∀ c, c < n → x = nI c → post 1) (h0 : (x < 0 ∨ nI n ≤ x) → post 0) : wpX_isBlock post (cu_X n q led t fu p lv own am s1 s2 wl wy) x := by
  refine br_c (fun z => h0 (Or.inl z)) (fun z => br_c (fun z2 => h0 (Or.inr z2)) (fun z2 => ?_))
  rcases pk_ix x (n := n) (by omega) with g | g | ⟨c, hc, e⟩
  · exact absurd g z
  · exact absurd g z2
  · exact h1 c hc e
theorem cu_x_l {post : Int32 → Prop} (hn : n ≤ 20) {c : Nat} (h0 : 1 ≤ c) (hc : c < n) (ht : bt led c = true → post 1) (hf : bt led c = false → post 0) : wpX_isThere post (cu_X n q led t fu p lv own am s1 s2 wl wy) (nI c) := by
  refine br_f (nI_nle h0 (by omega)) (br_f (nI_ge hc (by omega)) (br_c (fun z => hf ((cu_bit (by omega)).mp z)) (fun z => ht ?_)))
  cases e : bt led c with
  | true => rfl
  | false => exact absurd ((cu_bit (by omega)).mpr e) z
theorem cu_x_t {post : Int32 → Prop} (hn : n ≤ 20) {b : Nat} (L : cu_LS own am (cu_F p s1 s2 b) led wl) {x : Int32} (h1 : cu_H n p s1 s2 b x → post 1) (h0 : ¬ cu_H n p s1 s2 b x → post 0) : wpX_isThere post (cu_X n q led t fu p lv own am s1 s2 wl wy) x := by
  by_cases z1 : x ≤ 0
  · refine br_t z1 (h0 ?_)
    rintro ⟨c, hc, e, hF⟩
    rw [e] at z1
    exact nI_nle hF.1 (by omega) z1
  · by_cases z2 : nI n ≤ x
    · refine br_f z1 (br_t z2 (h0 ?_))
      rintro ⟨c, hc, e, hF⟩
      rw [e] at z2
      exact nI_ge hc (by omega) z2
    · obtain ⟨c, hc, rfl⟩ : ∃ c, c < n ∧ x = nI c := by
        rcases pk_ix x (n := n) (by omega) with g | g | g
        · exact absurd (Int32.le_of_lt g) z1
        · exact absurd g z2
        · exact g
      have hc1 : 1 ≤ c := by
        rcases Nat.eq_zero_or_pos c with e | e
        · rw [e] at z1; exact absurd (by decide) z1
        · exact e
      refine cu_x_l hn hc1 hc (fun w => h1 ((cu_H_n hn hc).mpr ((L.1 c (by omega)).mp w))) (fun w => h0 (fun g => ?_))
      have := (L.1 c (by omega)).mpr ((cu_H_n hn hc).mp g)
      rw [w] at this
      exact Bool.noConfusion this
theorem cu_x_p5 {post : Int32 → Prop} {fq ft : Int32} {aa : Nat → Int32} {m : Nat} (hn : n ≤ 20) (hp : cu_P p) (hV : cu_V n p lv) (hpost : post (nI m)) : ∀ f x y : Nat, x < n → y < n → x + y < f → cu_M p x y m → wX_partingOf_5 post (nI n) fq led ft fu (fun b => nI (p b)) (fun b => nI (lv b)) own aa s1 s2 wl wy f (nI x) (nI y) := by
  intro f
  induction f with
  | zero => intro x y _ _ z; omega
  | succ f ih =>
    intro x y hx hy hf hM
    have vx : vp_in (nI x) 20 := vp_in_nI (by omega) (by omega)
    have vy : vp_in (nI y) 20 := vp_in_nI (by omega) (by omega)
    have lx := cu_lv_le hp hV x hx
    have ly := cu_lv_le hp hV y hy
    refine pk_eq x y (fun e => ?_) (fun ne => ⟨vx, vy, pk_lt (lv x) (lv y) (fun z => ⟨vy, ?_⟩) (fun z => ⟨vx, ?_⟩) (cu_rd (f := fun b => nI (lv b)) (by omega)) (cu_rd (f := fun b => nI (lv b)) (by omega))⟩)
    · rw [← e] at hM
      rw [← cu_M_e hp hM]; exact hpost
    · obtain ⟨h1, h2⟩ := cu_M_y hp hV hx hy z hM
      have h3 := hp.2 y h1
      exact nm_r (cu_rd (f := fun b => nI (p b)) (by omega)) (ih x (p y) hx (by omega) (by omega) h2)
    · obtain ⟨h1, h2⟩ := cu_M_x hp hV hx hy ne z hM
      have h3 := hp.2 x h1
      exact nm_r (cu_rd (f := fun b => nI (p b)) (by omega)) (ih (p x) y (by omega) hy (by omega) h2)
theorem cu_x_p {post : Int32 → Prop} {m x y : Nat} (hn : n ≤ 20) (hp : cu_P p) (hV : cu_V n p lv) (hx : x < n) (hy : y < n) (hM : cu_M p x y m) (hpost : post (nI m)) : wpX_partingOf post (cu_X n q led t fu p lv own am s1 s2 wl wy) (nI x) (nI y) :=
  ⟨x + y + 1, cu_x_p5 hn hp hV hpost (x + y + 1) x y hx hy (by omega) hM⟩
theorem cu_x_tk {post : SX → Prop} {S : Nat → Prop} {c : Nat} (hc : c < 20) (hO : ∀ b, ∃ o, o < 4 ∧ own b = nI o) (hA : ∀ b, am b < 2 ^ 31) (hS : S c) (L : cu_LS own am S led wl) (K : ∀ ld w, cu_LS own am (fun d => S d ∧ d ≠ c) ld w → post (cu_X n q ld t fu p lv own am s1 s2 w wy)) : wpX_takeCoin post (cu_X n q led t fu p lv own am s1 s2 wl wy) (nI c) := by
  obtain ⟨o, ho, hoc⟩ := hO c
  have v1 : vp_in (nI c) 20 := vp_in_nI hc (by omega)
  have e : own (nI c).toNatClampNeg = nI o := by rw [nI_clamp (by omega)]; exact hoc
  have v2 : vp_in (own (nI c).toNatClampNeg) 4 := by rw [e]; exact vp_in_nI ho (by omega)
  intro ld eld
  refine And.intro v1 (And.intro v2 (And.intro v1 (And.intro v2 ?_)))
  intro w ew
  rw [e, nI_clamp (n := o) (by omega), nI_clamp (n := c) (by omega)] at ew
  rw [eld, ew]
  exact K _ _ (cu_LS_t hc ho hoc (hA c) hS L)
theorem cu_x_gv {post : SX → Prop} {S : Nat → Prop} {c : Nat} (hc : c < 20) (hO : ∀ b, ∃ o, o < 4 ∧ own b = nI o) (hA : ∀ b, am b < 2 ^ 31) (hS : ¬ S c) (L : cu_LS own am S led wl) (K : ∀ ld w, cu_LS own am (fun d => S d ∨ d = c) ld w → post (cu_X n q ld t fu p lv own am s1 s2 w wy)) : wpX_giveCoin post (cu_X n q led t fu p lv own am s1 s2 wl wy) (nI c) := by
  obtain ⟨o, ho, hoc⟩ := hO c
  have v1 : vp_in (nI c) 20 := vp_in_nI hc (by omega)
  have e : own (nI c).toNatClampNeg = nI o := by rw [nI_clamp (by omega)]; exact hoc
  have v2 : vp_in (own (nI c).toNatClampNeg) 4 := by rw [e]; exact vp_in_nI ho (by omega)
  intro ld eld
  refine And.intro v1 (And.intro v2 (And.intro v1 (And.intro v2 ?_)))
  intro w ew
  rw [e, nI_clamp (n := o) (by omega), nI_clamp (n := c) (by omega)] at ew
  rw [eld, ew]
  exact K _ _ (cu_LS_g hc ho hoc (hA c) hS L)
theorem cu_x_u24 {post : SX → Prop} {S : Nat → Prop} {b : Nat} (hb : b < 20) (hO : ∀ b, ∃ o, o < 4 ∧ own b = nI o) (hA : ∀ b, am b < 2 ^ 31) (hs : s2 b = -1 ∨ ∃ c, c < 20 ∧ s2 b = nI c ∧ ¬ S c) (L : cu_LS own am S led wl) (K : ∀ ld w, cu_LS own am (fun d => S d ∨ s2 b = nI d) ld w → post (cu_X n q ld t fu p lv own am s1 s2 w wy)) : wX_undo_24 post (nI b) (nI n) (nI q) led (nI t) fu (fun b => nI (p b)) (fun b => nI (lv b)) own (fun b => nI (am b)) s1 s2 wl wy := by
  have v : vp_in (nI b) 20 := vp_in_nI hb (by omega)
  unfold wX_undo_24
  rw [cu_rd (f := s2) hb]
  refine ⟨v, ?_⟩
  rcases hs with e | ⟨c, hc, e, hS⟩
  · rw [e]
    refine br_t (by decide) (K _ _ (cu_LS_c L (fun d hd => ⟨Or.inl, fun z => z.resolve_right ?_⟩)))
    rw [e]; exact cu_m1 hd
  · rw [e]
    refine br_f (nI_pos (by omega)) ⟨v, cu_x_gv hc hO hA hS L (fun ld w L2 => K ld w (cu_LS_c L2 (fun d hd => ?_)))⟩
    rw [e]
    exact ⟨fun z => z.imp id (fun g => by rw [g]), fun z => z.imp id (fun g => (cu_inj hc hd g).symm)⟩
theorem cu_x_un {post : SX → Prop} (G : cu_G n p lv own am s1 s2) {b : Nat} (h0 : 1 ≤ b) (hb : b < n) (L : cu_LS own am (cu_F p s1 s2 b) led wl) (K : ∀ ld w, cu_LS own am (cu_F p s1 s2 (p b)) ld w → post (cu_X n q ld t fu p lv own am s1 s2 w wy)) : wpX_undo post (cu_X n q led t fu p lv own am s1 s2 wl wy) (nI b) := by
  obtain ⟨⟨hn1, hn⟩, hp, hV, hO, ⟨_, hA⟩, _, hQ⟩ := G
  obtain ⟨q1, q2, q3⟩ := hQ.2 b h0 hb
  have v : vp_in (nI b) 20 := vp_in_nI (by omega) (by omega)
  have hpb := hp.2 b h0
  have e1 : s1 (nI b).toNatClampNeg = s1 b := cu_rd (by omega)
  have T : s2 b = -1 ∨ ∃ c, c < 20 ∧ s2 b = nI c ∧ ¬ ((cu_F p s1 s2 b c ∧ c ≠ b) ∨ s1 b = nI c) := by
    rcases q2 with e | ⟨c, e, hF⟩
    · exact Or.inl e
    · have hc := cu_F_le hp hF
      refine Or.inr ⟨c, by omega, e, ?_⟩
      rintro (z | z)
      · exact (z.1.2.2 b (cu_anc_r p b)).2 e
      · exact cu_m1 (by omega) ((q3 (z.trans e.symm)).symm.trans z)
  have KK : ∀ ld w, cu_LS own am (fun d => (cu_F p s1 s2 b d ∧ d ≠ b) ∨ s1 b = nI d) ld w → wX_undo_24 post (nI b) (nI n) (nI q) ld (nI t) fu (fun b => nI (p b)) (fun b => nI (lv b)) own (fun b => nI (am b)) s1 s2 w wy :=
    fun ld w L2 => cu_x_u24 (by omega) hO hA T L2 (fun ld w L3 => K ld w (cu_LS_c L3 (fun d hd => cu_F_b hn hp hQ h0 hb hd)))
  unfold wpX_undo
  refine cu_x_tk (S := cu_F p s1 s2 b) (by omega) hO hA ((cu_F_s hn hp hQ h0 hb).mpr (Or.inl rfl)) L (fun ld w L2 => ?_)
  refine And.intro v ?_
  rw [e1]
  rcases q1 with e | ⟨c, e, hF⟩
  · rw [e]
    refine br_t (by decide) (KK _ _ (cu_LS_c L2 (fun d hd => ⟨Or.inl, fun z => z.resolve_right ?_⟩)))
    rw [e]; exact cu_m1 hd
  · have hc := cu_F_le hp hF
    have hnS : ¬ (cu_F p s1 s2 b c ∧ c ≠ b) := fun z => (z.1.2.2 b (cu_anc_r p b)).1 e
    rw [e]
    refine br_f (nI_pos (by omega)) (And.intro v (cu_x_gv (by omega) hO hA hnS L2 (fun ld w L3 => KK ld w (cu_LS_c L3 (fun d hd => ?_)))))
    rw [e]
    exact ⟨fun z => z.imp id (fun g => by rw [g]), fun z => z.imp id (fun g => (cu_inj (by omega) hd g).symm)⟩
theorem cu_x_a19 {post : SX → Prop} {S : Nat → Prop} {b : Nat} (hb : b < 20) (hO : ∀ b, ∃ o, o < 4 ∧ own b = nI o) (hA : ∀ b, am b < 2 ^ 31) (hs : s2 b = -1 ∨ ∃ c, c < 20 ∧ s2 b = nI c ∧ S c) (hS : ¬ S b) (L : cu_LS own am S led wl) (K : ∀ ld w, cu_LS own am (fun d => (S d ∧ s2 b ≠ nI d) ∨ d = b) ld w → post (cu_X n q ld t fu p lv own am s1 s2 w wy)) : wX_apply_19 post (nI b) (nI n) (nI q) led (nI t) fu (fun b => nI (p b)) (fun b => nI (lv b)) own (fun b => nI (am b)) s1 s2 wl wy := by
  have v : vp_in (nI b) 20 := vp_in_nI hb (by omega)
  have KK : ∀ ld w, cu_LS own am (fun d => S d ∧ s2 b ≠ nI d) ld w → wX_apply_38 post (nI b) (nI n) (nI q) ld (nI t) fu (fun b => nI (p b)) (fun b => nI (lv b)) own (fun b => nI (am b)) s1 s2 w wy := by
    intro ld w L2
    unfold wX_apply_38
    exact cu_x_gv hb hO hA (fun z => hS z.1) L2 K
  unfold wX_apply_19
  rw [cu_rd (f := s2) hb]
  refine ⟨v, ?_⟩
  rcases hs with e | ⟨c, hc, e, hS2⟩
  · rw [e]
    refine br_t (by decide) (KK _ _ (cu_LS_c L (fun d hd => ⟨fun z => ⟨z, ?_⟩, fun z => z.1⟩)))
    rw [e]; exact cu_m1 hd
  · rw [e]
    refine br_f (nI_pos (by omega)) ⟨v, cu_x_tk hc hO hA hS2 L (fun ld w L2 => KK ld w (cu_LS_c L2 (fun d hd => ?_)))⟩
    rw [e]
    exact ⟨fun z => ⟨z.1, fun g => z.2 (cu_inj hc hd g).symm⟩, fun z => ⟨z.1, fun g => z.2 (by rw [g])⟩⟩
theorem cu_x_ap {post : SX → Prop} (G : cu_G n p lv own am s1 s2) {b : Nat} (h0 : 1 ≤ b) (hb : b < n) (L : cu_LS own am (cu_F p s1 s2 (p b)) led wl) (K : ∀ ld w, cu_LS own am (cu_F p s1 s2 b) ld w → post (cu_X n q ld t fu p lv own am s1 s2 w wy)) : wpX_apply post (cu_X n q led t fu p lv own am s1 s2 wl wy) (nI b) := by
  obtain ⟨⟨hn1, hn⟩, hp, hV, hO, ⟨_, hA⟩, _, hQ⟩ := G
  obtain ⟨q1, q2, q3⟩ := hQ.2 b h0 hb
  have v : vp_in (nI b) 20 := vp_in_nI (by omega) (by omega)
  have hpb := hp.2 b h0
  have e1 : s1 (nI b).toNatClampNeg = s1 b := cu_rd (by omega)
  have T : s2 b = -1 ∨ ∃ c, c < 20 ∧ s2 b = nI c ∧ (cu_F p s1 s2 (p b) c ∧ s1 b ≠ nI c) := by
    rcases q2 with e | ⟨c, e, hF⟩
    · exact Or.inl e
    · have hc := cu_F_le hp hF
      refine Or.inr ⟨c, by omega, e, hF, fun z => ?_⟩
      exact cu_m1 (by omega) ((q3 (z.trans e.symm)).symm.trans z)
  have KK : ∀ ld w, cu_LS own am (fun d => cu_F p s1 s2 (p b) d ∧ s1 b ≠ nI d) ld w → wX_apply_19 post (nI b) (nI n) (nI q) ld (nI t) fu (fun b => nI (p b)) (fun b => nI (lv b)) own (fun b => nI (am b)) s1 s2 w wy := by
    intro ld w L2
    refine cu_x_a19 (by omega) hO hA T (fun z => ?_) L2 (fun ld w L3 => K ld w (cu_LS_c L3 (fun d hd => ?_)))
    · have := cu_F_le hp z.1
      omega
    · rw [cu_F_s hn hp hQ h0 hb]
      exact ⟨fun z => z.elim (fun g => Or.inr ⟨g.1.1, g.1.2, g.2⟩) Or.inl, fun z => z.elim Or.inr (fun g => Or.inl ⟨⟨g.1, g.2.1⟩, g.2.2⟩)⟩
  unfold wpX_apply
  refine And.intro v ?_
  rw [e1]
  rcases q1 with e | ⟨c, e, hF⟩
  · rw [e]
    refine br_t (by decide) (KK _ _ (cu_LS_c L (fun d hd => ⟨fun z => ⟨z, ?_⟩, fun z => z.1⟩)))
    rw [e]; exact cu_m1 hd
  · have hc := cu_F_le hp hF
    rw [e]
    refine br_f (nI_pos (by omega)) (And.intro v (cu_x_tk (by omega) hO hA hF L (fun ld w L3 => KK ld w (cu_LS_c L3 (fun d hd => ?_)))))
    rw [e]
    exact ⟨fun z => ⟨z.1, fun g => z.2 (cu_inj (by omega) hd g).symm⟩, fun z => ⟨z.1, fun g => z.2 (by rw [g])⟩⟩
/-- up again: the blocks on the way are laid in wy, the last one first -/
theorem cu_x_m90 {post : Int32 → SX → Prop} {r : Int32} (G : cu_G n p lv own am s1 s2) {g : Nat} (hg : g < n) (K : ∀ ld w, cu_LS own am (cu_F p s1 s2 g) ld w → post r (cu_X n g ld t fu p lv own am s1 s2 w wy)) : ∀ k f led wl, k < f → k ≤ 20 → (∀ i, i < k → wy i = nI (cu_it p i g) ∧ 1 ≤ cu_it p i g) → cu_LS own am (cu_F p s1 s2 (cu_it p k g)) led wl → wX_moveTo_90 post (nI g) r f (nI k - 1) (nI n) (nI q) led (nI t) fu (fun b => nI (p b)) (fun b => nI (lv b)) own (fun b => nI (am b)) s1 s2 wl wy := by
  have hn := G.1.2
  have hp := G.2.1
  intro k
  induction k with
  | zero =>
    intro f led wl hf _ _ L
    cases f with
    | zero => omega
    | succ f => exact br_t (by decide) (K _ _ L)
  | succ k ih =>
    intro f led wl hf hk hw L
    cases f with
    | zero => omega
    | succ f =>
      rw [nI_pred]
      obtain ⟨w1, w2⟩ := hw k (by omega)
      have hle := cu_it_le hp k g
      rw [cu_it_s] at L
      refine br_f (nI_pos (by omega)) (And.intro (vp_in_nI (by omega) (by omega)) ?_)
      rw [cu_rd (f := wy) (by omega), w1]
      refine cu_x_ap G w2 (by omega) L (fun ld w L2 => ?_)
      exact nm_r (Int32.sub_eq_add_neg (nI k) 1).symm (ih f ld w (by omega) (by omega) (fun i hi => hw i (by omega)) L2)
theorem cu_nar {b : Nat} (h : b < 20) : vp_nar .byte (nI b).toInt8.toInt32 = nI b := by
  rw [pk_vb]
  exact (by decide +kernel : ∀ b, b < 20 → (nI b).toInt8.toInt32 = nI b) b h
theorem cu_x_m53 {post : Int32 → SX → Prop} {r : Int32} (G : cu_G n p lv own am s1 s2) {g m : Nat} (hg : g < n) (K : ∀ ld w wz, cu_LS own am (cu_F p s1 s2 g) ld w → post r (cu_X n g ld t fu p lv own am s1 s2 w wz)) (L : cu_LS own am (cu_F p s1 s2 m) led wl) : ∀ f j b wy, b = cu_it p j g → lv b + j = lv g → cu_anc p m b → lv b < f → (∀ i, i < j → wy i = nI (cu_it p i g) ∧ 1 ≤ cu_it p i g) → wX_moveTo_53 post (nI g) (nI m) r (nI n) (nI q) led (nI t) fu f (nI j) (nI b) (fun b => nI (p b)) (fun b => nI (lv b)) own (fun b => nI (am b)) s1 s2 wl wy := by
  have hn := G.1.2
  have hp := G.2.1
  have hV := G.2.2.1
  have hlg := cu_lv_le hp hV g hg
  intro f
  induction f with
  | zero => intro j b wy _ _ _ z; omega
  | succ f ih =>
    intro j b wy hb hl hm hf hw
    have hbn : b ≤ g := by rw [hb]; exact cu_it_le hp j g
    have hmb := cu_anc_le hp hm
    refine pk_eq b m (fun e => ?_) (fun ne => ?_)
    · refine nm_e ⟨j + 1, ?_⟩
      refine cu_x_m90 G hg (fun ld w L2 => K ld w wy L2) j (j + 1) led wl (by omega) (by omega) hw ?_
      rw [← hb, e]; exact L
    · have h0 : 1 ≤ b := by
        rcases Nat.eq_zero_or_pos b with z | z
        · rw [z] at hm
          have := cu_anc_z hp hm
          omega
        · exact z
      have h1 := hV.2 b h0 (by omega)
      refine And.intro (vp_in_nI (by omega) (by omega)) ?_
      refine nm_r (e' := upd wy j (nI b)) (by rw [nI_clamp (n := j) (by omega), cu_nar (by omega)]) (nm_r (nI_1 j) (And.intro (vp_in_nI (by omega) (by omega)) (nm_r (cu_rd (f := fun b => nI (p b)) (by omega)) ?_)))
      refine ih (j + 1) (p b) (upd wy j (nI b)) ?_ (by omega) (cu_anc_d hm (fun z => ne z.symm)) (by omega) (fun i hi => ?_)
      · rw [cu_it_s, ← hb]
      · by_cases z : i = j
        · rw [z, pk_us, ← hb]; exact ⟨rfl, h0⟩
        · rw [pk_un z]; exact hw i (by omega)
theorem cu_x_m12 {post : Int32 → SX → Prop} (G : cu_G n p lv own am s1 s2) {g m : Nat} : ∀ f q k led wl, q < n → cu_anc p m q → lv q < f → cu_LS own am (cu_F p s1 s2 q) led wl → (∀ ld w, cu_LS own am (cu_F p s1 s2 m) ld w → ∃ n53, wX_moveTo_53 post (nI g) (nI m) (nI (k + (lv q - lv m))) (nI n) (nI m) ld (nI t) fu n53 0 (nI g) (fun b => nI (p b)) (fun b => nI (lv b)) own (fun b => nI (am b)) s1 s2 w wy) → wX_moveTo_12 post (nI g) (nI m) f (nI k) (nI n) (nI q) led (nI t) fu (fun b => nI (p b)) (fun b => nI (lv b)) own (fun b => nI (am b)) s1 s2 wl wy := by
  have hn := G.1.2
  have hp := G.2.1
  have hV := G.2.2.1
  intro f
  induction f with
  | zero => intro q k led wl _ _ z; omega
  | succ f ih =>
    intro q k led wl hq hm hf L K
    have hmq := cu_anc_le hp hm
    refine pk_eq q m (fun e => ?_) (fun ne => ?_)
    · rw [e, Nat.sub_self, Nat.add_zero] at K
      rw [e] at L ⊢
      exact K led wl L
    · have h0 : 1 ≤ q := by
        rcases Nat.eq_zero_or_pos q with z | z
        · rw [z] at hm
          have := cu_anc_z hp hm
          omega
        · exact z
      have h1 := hV.2 q h0 hq
      have h2 := hp.2 q h0
      have hm2 := cu_anc_d hm (fun z => ne z.symm)
      have h3 := (cu_lv_a hp hV (p q) (by omega) hm2).1
      refine cu_x_un G h0 hq L (fun ld w L2 => ?_)
      refine And.intro (vp_in_nI (by omega) (by omega)) (nm_r (cu_rd (f := fun b => nI (p b)) (by omega)) (nm_r (nI_1 k) ?_))
      refine ih (p q) (k + 1) ld w (by omega) hm2 (by omega) L2 ?_
      rw [show k + 1 + (lv (p q) - lv m) = k + (lv q - lv m) by omega]
      exact K
/-- the ledger moves from q to g; m is the last block in common -/
theorem cu_x_mv {post : Int32 → SX → Prop} (G : cu_G n p lv own am s1 s2) {g m : Nat} (hq : q < n) (hg : g < n) (hM : cu_M p q g m) (L : cu_LS own am (cu_F p s1 s2 q) led wl) (K : ∀ ld w wz, cu_LS own am (cu_F p s1 s2 g) ld w → post (nI (lv q - lv m)) (cu_X n g ld t fu p lv own am s1 s2 w wz)) : wpX_moveTo post (cu_X n q led t fu p lv own am s1 s2 wl wy) (nI g) := by
  have hn := G.1.2
  have hp := G.2.1
  have hV := G.2.2.1
  unfold wpX_moveTo
  refine cu_x_p hn hp hV hq hg hM ⟨lv q + 1, ?_⟩
  refine cu_x_m12 G (lv q + 1) q 0 led wl hq hM.1 (by omega) L (fun ld w L2 => ⟨lv g + 1, ?_⟩)
  rw [Nat.zero_add]
  exact cu_x_m53 G hg K L2 (lv g + 1) 0 g wy rfl rfl hM.2.1 (by omega) (fun i hi => absurd hi (Nat.not_lt_zero i))
end
end
section
/-! a new block, on both sides; the relation -/
def cu_up (f : Nat → Nat) (k x : Nat) : Nat → Nat := fun j => if j = k then x else f j
theorem cu_up_s {f : Nat → Nat} {k x : Nat} : cu_up f k x k = x := if_pos rfl
theorem cu_up_n {f : Nat → Nat} {k x j : Nat} (h : j ≠ k) : cu_up f k x j = f j := if_neg h
theorem cu_up_e {f : Nat → Nat} {n x : Nat} {y : Int32} (hn : n < 20) (hy : y = nI x) : upd (fun b => nI (f b)) (nI n).toNatClampNeg y = fun b => nI (cu_up f n x b) := by
  rw [nI_clamp (by omega), hy]
  funext j
  show (if j = n then nI x else nI (f j)) = nI (if j = n then x else f j)
  by_cases h : j = n
  · rw [if_pos h, if_pos h]
  · rw [if_neg h, if_neg h]
theorem cu_ps_u {p : Nat → Nat} {n a : Nat} (h0 : 1 ≤ n) (hn : n < 20) : upd (cu_ps p) (nI n).toNatClampNeg (nI a) = cu_ps (cu_up p n a) := by
  rw [nI_clamp (by omega)]
  funext j
  show (if j = n then nI a else if j = 0 then (-1 : Int32) else nI (p j)) = if j = 0 then (-1 : Int32) else nI (if j = n then a else p j)
  by_cases h : j = n
  · rw [if_pos h, if_pos h, if_neg (by omega)]
  · rw [if_neg h, if_neg h]
theorem cu_u_c {f : Nat → Int32} {n : Nat} {x : Int32} (hn : n < 20) : upd f (nI n).toNatClampNeg x = upd f n x := by rw [nI_clamp (by omega)]
theorem cu_nar_S {p : Nat → Nat} {s1 s2 : Nat → Int32} {a : Nat} {y : Int32} (hp : cu_P p) (ha : a < 20) (h : cu_S p s1 s2 a y) : vp_nar .byte y.toInt8.toInt32 = y := by
  rcases h with e | ⟨c, e, hF⟩
  · rw [e, pk_vb]; decide
  · have := cu_F_le hp hF
    rw [e]; exact cu_nar (by omega)
section
variable {n t : Nat} {led fu : Int32} {p lv : Nat → Nat} {own : Nat → Int32} {am : Nat → Nat} {s1 s2 : Nat → Int32} {wl : Nat → Int64} {wy tk : Nat → Int32}
theorem cu_S_c {a b : Nat} {y1 y2 z : Int32} (hp : cu_P p) (hb : b < n) (h : cu_S p s1 s2 b z) : cu_S (cu_up p n a) (upd s1 n y1) (upd s2 n y2) b z := by
  rcases h with h | ⟨c, e, hF⟩
  · exact Or.inl h
  · exact Or.inr ⟨c, e, (cu_F_c (n := n) hp (fun b hb => cu_up_n (by omega)) (fun b hb => pk_un (by omega)) (fun b hb => pk_un (by omega)) hb).mpr hF⟩
theorem cu_G_a {a o x : Nat} {y1 y2 : Int32} (G : cu_G n p lv own am s1 s2) (hn : n < 20) (ha : a < n) (ho : o < 4) (hx : 1 ≤ x ∧ x ≤ 100 * 2 ^ n) (h1 : cu_S p s1 s2 a y1) (h2 : cu_S p s1 s2 a y2) (h3 : y1 = y2 → y1 = -1) : cu_G (n + 1) (cu_up p n a) (cu_up lv n (lv a + 1)) (upd own n (nI o)) (cu_up am n x) (upd s1 n y1) (upd s2 n y2) := by
  obtain ⟨⟨hn1, hn2⟩, hp, hV, hO, ⟨hA0, hA⟩, hB, hQ⟩ := G
  refine ⟨⟨by omega, by omega⟩, ⟨?_, ?_⟩, ⟨?_, ?_⟩, ?_, ⟨?_, ?_⟩, ?_, ⟨⟨?_, ?_⟩, ?_⟩⟩
  · rw [cu_up_n (by omega)]; exact hp.1
  · intro b hb
    by_cases e : b = n
    · rw [e, cu_up_s]; exact ha
    · rw [cu_up_n e]; exact hp.2 b hb
  · rw [cu_up_n (by omega)]; exact hV.1
  · intro b hb hbn
    by_cases e : b = n
    · rw [e, cu_up_s, cu_up_s, cu_up_n (by omega)]
    · have := hp.2 b hb
      rw [cu_up_n e, cu_up_n e, cu_up_n (by omega)]; exact hV.2 b hb (by omega)
  · intro b
    by_cases e : b = n
    · rw [e, pk_us]; exact ⟨o, ho, rfl⟩
    · rw [pk_un e]; exact hO b
  · rw [cu_up_n (by omega)]; exact hA0
  · intro b
    by_cases e : b = n
    · rw [e, cu_up_s]
      have : 2 ^ n ≤ 2 ^ 19 := Nat.pow_le_pow_right (by decide) (by omega)
      omega
    · rw [cu_up_n e]; exact hA b
  · intro b hb hbn
    by_cases e : b = n
    · rw [e, cu_up_s]; exact hx
    · rw [cu_up_n e]; exact hB b hb (by omega)
  · rw [pk_un (by omega)]; exact hQ.1.1
  · rw [pk_un (by omega)]; exact hQ.1.2
  · intro b hb hbn
    by_cases e : b = n
    · rw [e, cu_up_s, pk_us, pk_us]
      exact ⟨cu_S_c hp ha h1, cu_S_c hp ha h2, h3⟩
    · have hlt := hp.2 b hb
      obtain ⟨q1, q2, q3⟩ := hQ.2 b hb (by omega)
      rw [cu_up_n e, pk_un e, pk_un e]
      exact ⟨cu_S_c hp (by omega) q1, cu_S_c hp (by omega) q2, q3⟩
theorem cu_LS_a {a o x : Nat} {y1 y2 : Int32} (hp : cu_P p) (ht : t < n) (L : cu_LS own am (cu_F p s1 s2 t) led wl) : cu_LS (upd own n (nI o)) (cu_up am n x) (cu_F (cu_up p n a) (upd s1 n y1) (upd s2 n y2) t) led wl := by
  refine cu_LS_c (cu_LS_o L (fun c hc hF => ?_)) (fun c hc => ?_)
  · have := cu_F_le hp hF
    exact ⟨pk_un (by omega), cu_up_n (by omega)⟩
  · exact (cu_F_c (n := n) hp (fun b hb => cu_up_n (by omega)) (fun b hb => pk_un (by omega)) (fun b hb => pk_un (by omega)) ht).symm
theorem cu_x_add {post : Int32 → SX → Prop} {a o x m : Nat} {y1 y2 : Int32} (G : cu_G n p lv own am s1 s2) (hn : n < 20) (ht : t < n) (ha : a < n) (ho : o < 4) (hx : 1 ≤ x ∧ x ≤ 100 * 2 ^ n) (h1 : cu_S p s1 s2 a y1) (h2 : cu_S p s1 s2 a y2) (h3 : y1 = y2 → y1 = -1) (hM : cu_M (cu_up p n a) t n m) (L : cu_LS own am (cu_F p s1 s2 t) led wl)
    (K1 : cu_up lv n (lv a + 1) n ≤ cu_up lv n (lv a + 1) t → ∀ ld w wz, cu_LS (upd own n (nI o)) (cu_up am n x) (cu_F (cu_up p n a) (upd s1 n y1) (upd s2 n y2) t) ld w → post (nI n) (cu_X (n + 1) t ld t fu (cu_up p n a) (cu_up lv n (lv a + 1)) (upd own n (nI o)) (cu_up am n x) (upd s1 n y1) (upd s2 n y2) w wz))
    (K2 : cu_up lv n (lv a + 1) t < cu_up lv n (lv a + 1) n → ∀ ld w wz, cu_LS (upd own n (nI o)) (cu_up am n x) (cu_F (cu_up p n a) (upd s1 n y1) (upd s2 n y2) n) ld w → post (nI n) (cu_X (n + 1) n ld n (nI (cu_up lv n (lv a + 1) t - cu_up lv n (lv a + 1) m)) (cu_up p n a) (cu_up lv n (lv a + 1)) (upd own n (nI o)) (cu_up am n x) (upd s1 n y1) (upd s2 n y2) w wz)) :
    wpX_addBlock post (cu_X n t led t fu p lv own am s1 s2 wl wy) (nI a) (nI o) (nI x) y1 y2 := by
  have hp := G.2.1
  have hla := cu_lv_le hp G.2.2.1 a ha
  have G2 := cu_G_a G hn ha ho hx h1 h2 h3
  have L2 := cu_LS_a (a := a) (o := o) (x := x) (y1 := y1) (y2 := y2) hp ht L
  have ln := cu_lv_le G2.2.1 G2.2.2.1 n (by omega)
  have lt := cu_lv_le G2.2.1 G2.2.2.1 t (by omega)
  have vn : vp_in (nI n) 20 := vp_in_nI hn (by omega)
  have va : vp_in (nI a) 20 := vp_in_nI (by omega) (by omega)
  have vt : vp_in (nI t) 20 := vp_in_nI (by omega) (by omega)
  have el : vp_nar .byte (((fun b => nI (lv b)) (nI a).toNatClampNeg + 1).toInt8.toInt32) = nI (lv a + 1) := by
    rw [nI_clamp (n := a) (by omega)]
    show vp_nar .byte ((nI (lv a) + 1).toInt8.toInt32) = _
    rw [nI_1]; exact cu_nar (by omega)
  unfold wpX_addBlock
  refine nm_r (nI_1 n) (And.intro vn (nm_r (cu_up_e hn (cu_nar (by omega))) (And.intro va (And.intro vn (nm_r (cu_up_e hn el) (And.intro vn (nm_r (e' := upd own n (nI o)) (by rw [cu_u_c hn, cu_nar (by omega)]) (And.intro vn (nm_r (cu_up_e hn rfl) (And.intro vn (nm_r (e' := upd s1 n y1) (by rw [cu_u_c hn, cu_nar_S hp (by omega) h1]) (And.intro vn (nm_r (e' := upd s2 n y2) (by rw [cu_u_c hn, cu_nar_S hp (by omega) h2]) (And.intro vn (And.intro vt ?_)))))))))))))))
  refine pk_le (cu_up lv n (lv a + 1) n) (cu_up lv n (lv a + 1) t) (fun z => K1 z _ _ _ L2) (fun z => ?_) (cu_rd (f := fun b => nI (cu_up lv n (lv a + 1) b)) (by omega)) (cu_rd (f := fun b => nI (cu_up lv n (lv a + 1) b)) (by omega))
  exact cu_x_mv G2 (by omega) (by omega) hM L2 (fun ld w wz L3 => K2 z ld w wz L3)
abbrev cu_Y (n t : Nat) (fu : Int32) (p : Nat → Nat) (own : Nat → Int32) (am : Nat → Nat) (s1 s2 tk : Nat → Int32) : SY := (nI n, nI t, fu, cu_ps p, own, fun b => nI (am b), s1, s2, tk)
theorem cu_y_add {post : Int32 → SY → Prop} {a o x m : Nat} {y1 y2 : Int32} (G : cu_G n p lv own am s1 s2) (hn : n < 20) (ht : t < n) (ha : a < n) (ho : o < 4) (hx : 1 ≤ x ∧ x ≤ 100 * 2 ^ n) (h1 : cu_S p s1 s2 a y1) (h2 : cu_S p s1 s2 a y2) (h3 : y1 = y2 → y1 = -1) (hM : cu_M (cu_up p n a) t n m)
    (K1 : cu_up lv n (lv a + 1) n ≤ cu_up lv n (lv a + 1) t → post (nI n) (cu_Y (n + 1) t fu (cu_up p n a) (upd own n (nI o)) (cu_up am n x) (upd s1 n y1) (upd s2 n y2) tk))
    (K2 : cu_up lv n (lv a + 1) t < cu_up lv n (lv a + 1) n → post (nI n) (cu_Y (n + 1) n (nI (cu_up lv n (lv a + 1) t - cu_up lv n (lv a + 1) m)) (cu_up p n a) (upd own n (nI o)) (cu_up am n x) (upd s1 n y1) (upd s2 n y2) tk)) :
    wpY_addBlock post (cu_Y n t fu p own am s1 s2 tk) (nI a) (nI o) (nI x) y1 y2 := by
  have G2 := cu_G_a G hn ha ho hx h1 h2 h3
  have hp2 := G2.2.1
  have hV2 := G2.2.2.1
  have hn1 := G.1.1
  have ln := cu_lv_le hp2 hV2 n (by omega)
  have lt := cu_lv_le hp2 hV2 t (by omega)
  have vn : vp_in (nI n) 20 := vp_in_nI hn (by omega)
  have hm := cu_anc_le hp2 hM.1
  have hml := (cu_lv_a hp2 hV2 t (by omega) hM.1).1
  unfold wpY_addBlock
  refine And.intro vn (nm_r (cu_ps_u hn1 hn) (And.intro vn (nm_r (cu_u_c hn) (And.intro vn (nm_r (cu_up_e hn rfl) (And.intro vn (nm_r (cu_u_c hn) (And.intro vn (nm_r (cu_u_c hn) (nm_r (nI_1 n) ?_))))))))))
  rw [nI_pred]
  refine cu_y_h (n := n + 1) (by omega) hp2 hV2 (by omega) ?_
  refine cu_y_h (n := n + 1) (by omega) hp2 hV2 (by omega) ?_
  refine pk_le (cu_up lv n (lv a + 1) n) (cu_up lv n (lv a + 1) t) K1 (fun z => ?_)
  refine cu_y_m (n := n + 1) (by omega) (by omega) (by omega) hp2 hV2 hM ?_
  refine cu_y_h (n := n + 1) (by omega) hp2 hV2 (by omega) ?_
  refine cu_y_h (n := n + 1) (by omega) hp2 hV2 (by omega) ?_
  exact nm_r (pk_sub hml) (nm_e (K2 z))
end
/-- the relation -/
def cu_R (n t : Nat) (led : Int32) (p lv : Nat → Nat) (own : Nat → Int32) (am : Nat → Nat) (s1 s2 : Nat → Int32) (wl : Nat → Int64) : Prop := cu_G n p lv own am s1 s2 ∧ t < n ∧ cu_LS own am (cu_F p s1 s2 t) led wl
def i_Rel (k : Nat) (u : SX) (v : SY) : Prop := ∃ (n t : Nat) (led fu : Int32) (p lv : Nat → Nat) (own : Nat → Int32) (am : Nat → Nat) (s1 s2 : Nat → Int32) (wl : Nat → Int64) (wy tk : Nat → Int32), cu_R n t led p lv own am s1 s2 wl ∧ u = cu_X n t led t fu p lv own am s1 s2 wl wy ∧ v = cu_Y n t fu p own am s1 s2 tk
theorem cu_el {k : Nat} {u : SX} {v : SY} {P : SX → SY → Prop} (h : ∀ (n t : Nat) (led fu : Int32) (p lv : Nat → Nat) (own : Nat → Int32) (am : Nat → Nat) (s1 s2 : Nat → Int32) (wl : Nat → Int64) (wy tk : Nat → Int32), cu_G n p lv own am s1 s2 → t < n → cu_LS own am (cu_F p s1 s2 t) led wl → P (cu_X n t led t fu p lv own am s1 s2 wl wy) (cu_Y n t fu p own am s1 s2 tk)) (I : i_Rel k u v) : P u v := by
  obtain ⟨n, t, led, fu, p, lv, own, am, s1, s2, wl, wy, tk, ⟨G, ht, L⟩, rfl, rfl⟩ := I
  exact h n t led fu p lv own am s1 s2 wl wy tk G ht L
theorem cu_mk {n t : Nat} {led fu : Int32} {p lv : Nat → Nat} {own : Nat → Int32} {am : Nat → Nat} {s1 s2 : Nat → Int32} {wl : Nat → Int64} {wy tk : Nat → Int32} (G : cu_G n p lv own am s1 s2) (ht : t < n) (L : cu_LS own am (cu_F p s1 s2 t) led wl) (k : Nat) : i_Rel k (cu_X n t led t fu p lv own am s1 s2 wl wy) (cu_Y n t fu p own am s1 s2 tk) :=
  ⟨n, t, led, fu, p, lv, own, am, s1, s2, wl, wy, tk, ⟨G, ht, L⟩, rfl, rfl⟩
/-- both sides at once -/
theorem cu_add {n t : Nat} {led fu : Int32} {p lv : Nat → Nat} {own : Nat → Int32} {am : Nat → Nat} {s1 s2 : Nat → Int32} {wl : Nat → Int64} {wy tk : Nat → Int32} {post : Int32 → SX → Prop} {a o x : Nat} {y1 y2 : Int32} (G : cu_G n p lv own am s1 s2) (hn : n < 20) (ht : t < n) (ha : a < n) (ho : o < 4) (hx : 1 ≤ x ∧ x ≤ 100 * 2 ^ n) (h1 : cu_S p s1 s2 a y1) (h2 : cu_S p s1 s2 a y2) (h3 : y1 = y2 → y1 = -1) (L : cu_LS own am (cu_F p s1 s2 t) led wl)
    (K : ∀ (N T : Nat) (ld U : Int32) (P V : Nat → Nat) (O : Nat → Int32) (A : Nat → Nat) (S1 S2 : Nat → Int32) (w : Nat → Int64) (wz : Nat → Int32), (∀ k, i_Rel k (cu_X N T ld T U P V O A S1 S2 w wz) (cu_Y N T U P O A S1 S2 tk)) → (∀ Z : Int32 → SY → Prop, Z (nI n) (cu_Y N T U P O A S1 S2 tk) → wpY_addBlock Z (cu_Y n t fu p own am s1 s2 tk) (nI a) (nI o) (nI x) y1 y2) → post (nI n) (cu_X N T ld T U P V O A S1 S2 w wz)) :
    wpX_addBlock post (cu_X n t led t fu p lv own am s1 s2 wl wy) (nI a) (nI o) (nI x) y1 y2 := by
  have G2 := cu_G_a G hn ha ho hx h1 h2 h3
  obtain ⟨m, hM⟩ := cu_M_ex G2.2.1 (t + n) t n rfl
  refine cu_x_add G hn ht ha ho hx h1 h2 h3 hM L (fun z ld w wz L2 => ?_) (fun z ld w wz L2 => ?_)
  · refine K _ _ _ _ _ _ _ _ _ _ _ _ (cu_mk G2 (by omega) L2) (fun Z hZ => ?_)
    exact cu_y_add G hn ht ha ho hx h1 h2 h3 hM (fun _ => hZ) (fun z2 => absurd z (by omega))
  · refine K _ _ _ _ _ _ _ _ _ _ _ _ (cu_mk G2 (by omega) L2) (fun Z hZ => ?_)
    exact cu_y_add G hn ht ha ho hx h1 h2 h3 hM (fun z2 => absurd z (by omega)) (fun _ => hZ)
end
section
/-! scans over the coins: coins, balance, largestOf and greatest, fewestFor -/
def cu_cn (L : Nat → Bool) (j : Nat) : Nat := cu_sn (fun c => if L c = true then 1 else 0) j
theorem cu_cn_t {L : Nat → Bool} {j : Nat} (h : L j = true) : cu_cn L (j + 1) = cu_cn L j + 1 := by
  show cu_cn L j + (if L j = true then 1 else 0) = _
  rw [if_pos h]
theorem cu_cn_f {L : Nat → Bool} {j : Nat} (h : L j = false) : cu_cn L (j + 1) = cu_cn L j := by
  show cu_cn L j + (if L j = true then 1 else 0) = _
  rw [if_neg (by rw [h]; exact Bool.noConfusion)]
  rfl
/-- the greatest coin of owner x, of those below j that are not used -/
def cu_bs (led used : Int32) (own : Nat → Int32) (am : Nat → Nat) (x : Int32) : Nat → Nat
  | 0 => 0
  | j + 1 => if bt led j = true ∧ own j = x ∧ bt used j = false ∧ (cu_bs led used own am x j = 0 ∨ am (cu_bs led used own am x j) < am j) then j else cu_bs led used own am x j
theorem cu_bs_t {led used : Int32} {own : Nat → Int32} {am : Nat → Nat} {x : Int32} {j : Nat} (h : bt led j = true ∧ own j = x ∧ bt used j = false ∧ (cu_bs led used own am x j = 0 ∨ am (cu_bs led used own am x j) < am j)) : cu_bs led used own am x (j + 1) = j := if_pos h
theorem cu_bs_f {led used : Int32} {own : Nat → Int32} {am : Nat → Nat} {x : Int32} {j : Nat} (h : ¬ (bt led j = true ∧ own j = x ∧ bt used j = false ∧ (cu_bs led used own am x j = 0 ∨ am (cu_bs led used own am x j) < am j))) : cu_bs led used own am x (j + 1) = cu_bs led used own am x j := if_neg h
theorem cu_bs_p {led used : Int32} {own : Nat → Int32} {am : Nat → Nat} {x : Int32} : ∀ j, (cu_bs led used own am x j = 0 ∧ ∀ c, 1 ≤ c → c < j → ¬ (bt led c = true ∧ own c = x ∧ bt used c = false)) ∨ (1 ≤ cu_bs led used own am x j ∧ cu_bs led used own am x j < j ∧ bt led (cu_bs led used own am x j) = true ∧ own (cu_bs led used own am x j) = x ∧ bt used (cu_bs led used own am x j) = false) := by
  intro j
  induction j with
  | zero => exact Or.inl ⟨rfl, fun c _ z => absurd z (Nat.not_lt_zero c)⟩
  | succ j ih =>
    by_cases h : bt led j = true ∧ own j = x ∧ bt used j = false ∧ (cu_bs led used own am x j = 0 ∨ am (cu_bs led used own am x j) < am j)
    · rw [cu_bs_t h]
      rcases Nat.eq_zero_or_pos j with e | e
      · exact Or.inl ⟨e, fun c a b => by omega⟩
      · exact Or.inr ⟨e, by omega, h.1, h.2.1, h.2.2.1⟩
    · rw [cu_bs_f h]
      rcases ih with ⟨i1, i2⟩ | ⟨i1, i2, i3⟩
      · refine Or.inl ⟨i1, fun c a b g => ?_⟩
        by_cases e : c = j
        · rw [e] at g; exact h ⟨g.1, g.2.1, g.2.2, Or.inl i1⟩
        · exact i2 c a (by omega) g
      · exact Or.inr ⟨i1, by omega, i3⟩
theorem cu_bs_l {led used : Int32} {own : Nat → Int32} {am : Nat → Nat} {x : Int32} (j : Nat) : cu_bs led used own am x j ≤ j := by
  rcases cu_bs_p (led := led) (used := used) (own := own) (am := am) (x := x) j with h | h
  · rw [h.1]; exact Nat.zero_le j
  · exact Nat.le_of_lt h.2.1
section
variable {n q t : Nat} {led fu : Int32} {p lv : Nat → Nat} {own : Nat → Int32} {am : Nat → Nat} {s1 s2 : Nat → Int32} {wl : Nat → Int64} {wy tk : Nat → Int32}
theorem cu_b0 (L : cu_LS own am (cu_F p s1 s2 t) led wl) : bt led 0 = false := by
  cases e : bt led 0 with
  | false => rfl
  | true => exact absurd ((L.1 0 (by omega)).mp e).1 (by omega)
theorem cu_y_fl {post : Int32 → Prop} {aa : Nat → Int32} (G : cu_G n p lv own am s1 s2) (ht : t < n) (L : cu_LS own am (cu_F p s1 s2 t) led wl) {c : Nat} (hc : c < n) (h1 : bt led c = true → post 1) (h0 : bt led c = false → post 0) : wpY_free post (nI n, nI t, fu, cu_ps p, own, aa, s1, s2, tk) (nI c) (nI t) := by
  have hn := G.1.2
  refine cu_y_f hn G.2.1 G.2.2.1 G.2.2.2.2.2.2.1 ht (fun h => h1 ((L.1 c (by omega)).mpr ((cu_H_n hn hc).mp h))) (fun h => h0 ?_)
  cases e : bt led c with
  | false => rfl
  | true => exact absurd ((cu_H_n hn hc).mpr ((L.1 c (by omega)).mp e)) h
theorem cu_x_c4 {post : Int32 → Prop} (hn : n ≤ 20) (h : post (nI (cu_cn (bt led) n))) : ∀ f j, 1 ≤ j → j ≤ n → n - j < f → wX_coins_4 post (nI n) (nI q) led (nI t) fu (fun b => nI (p b)) (fun b => nI (lv b)) own (fun b => nI (am b)) s1 s2 wl wy f (nI (cu_cn (bt led) j)) (nI j) := by
  intro f
  induction f with
  | zero => intro j _ _ z; omega
  | succ f ih =>
    intro j h1 hj hf
    refine pk_le n j (fun z => ?_) (fun z => ?_)
    · rw [show j = n by omega]; exact h
    · refine cu_x_l hn h1 z (fun e => br_f (by decide) (nm_r (e' := nI (cu_cn (bt led) (j + 1))) ?_ (nm_r (nI_1 j) (ih (j + 1) (by omega) (by omega) (by omega))))) (fun e => br_t rfl (nm_r (nI_1 j) ?_))
      · rw [cu_cn_t e, nI_1]
      · rw [← cu_cn_f (L := bt led) e]; exact ih (j + 1) (by omega) (by omega) (by omega)
theorem cu_y_c4 {post : Int32 → Prop} (G : cu_G n p lv own am s1 s2) (ht : t < n) (L : cu_LS own am (cu_F p s1 s2 t) led wl) (h : post (nI (cu_cn (bt led) n))) : ∀ f j, 1 ≤ j → j ≤ n → n - j < f → wY_coins_4 post (nI n) (nI t) fu (cu_ps p) own (fun b => nI (am b)) s1 s2 tk f (nI (cu_cn (bt led) j)) (nI j) := by
  have hn := G.1.2
  intro f
  induction f with
  | zero => intro j _ _ z; omega
  | succ f ih =>
    intro j h1 hj hf
    refine pk_le n j (fun z => ?_) (fun z => ?_)
    · rw [show j = n by omega]; exact h
    · refine cu_y_fl G ht L z (fun e => br_f (by decide) (nm_r (e' := nI (cu_cn (bt led) (j + 1))) ?_ (nm_r (nI_1 j) (ih (j + 1) (by omega) (by omega) (by omega))))) (fun e => br_t rfl (nm_r (nI_1 j) ?_))
      · rw [cu_cn_t e, nI_1]
      · rw [← cu_cn_f (L := bt led) e]; exact ih (j + 1) (by omega) (by omega) (by omega)
theorem cu_y_b5 {post : Int64 → Prop} {x : Int32} (G : cu_G n p lv own am s1 s2) (ht : t < n) (L : cu_LS own am (cu_F p s1 s2 t) led wl) (h : post (lN (cu_sn (cu_w (bt led) own am x) n))) : ∀ f j, 1 ≤ j → j ≤ n → n - j < f → wY_balance_5 post x (nI n) (nI t) fu (cu_ps p) own (fun b => nI (am b)) s1 s2 tk f (lN (cu_sn (cu_w (bt led) own am x) j)) (nI j) := by
  have hn := G.1.2
  intro f
  induction f with
  | zero => intro j _ _ z; omega
  | succ f ih =>
    intro j h1 hj hf
    have keep : cu_w (bt led) own am x j = 0 → wY_balance_5 post x (nI n) (nI t) fu (cu_ps p) own (fun b => nI (am b)) s1 s2 tk f (lN (cu_sn (cu_w (bt led) own am x) j)) (nI (j + 1)) ∨ j = n := by
      intro e
      by_cases z : j = n
      · exact Or.inr z
      · refine Or.inl ?_
        have i := ih (j + 1) (by omega) (by omega) (by omega)
        rw [show cu_sn (cu_w (bt led) own am x) (j + 1) = cu_sn (cu_w (bt led) own am x) j from by show _ + cu_w (bt led) own am x j = _; rw [e]; rfl] at i
        exact i
    refine pk_le n j (fun z => ?_) (fun z => And.intro (vp_in_nI (by omega) (by omega)) ?_)
    · rw [show j = n by omega]; exact h
    · rw [cu_rd (f := own) (by omega)]
      refine br_c (fun e => ?_) (fun e => nm_r (nI_1 j) ((keep (cu_w_n e)).resolve_right (by omega)))
      refine cu_y_fl G ht L z (fun b => br_f (by decide) (And.intro (vp_in_nI (by omega) (by omega)) (nm_r (e' := lN (cu_sn (cu_w (bt led) own am x) (j + 1))) ?_ (nm_r (nI_1 j) (ih (j + 1) (by omega) (by omega) (by omega)))))) (fun b => br_t rfl (nm_r (nI_1 j) ((keep (cu_w_f b)).resolve_right (by omega))))
      rw [nI_clamp (n := j) (by omega), nI_l (G.2.2.2.2.1.2 j), lN_add]
      show _ = lN (_ + cu_w (bt led) own am x j)
      rw [cu_w_t b e]
/-- the scan for the greatest coin, on both sides -/
theorem cu_x_g5 {post : Int32 → Prop} {x used : Int32} (hn : n ≤ 20) (hA : ∀ b, am b < 2 ^ 31) (h : post (nI (cu_bs led used own am x n))) : ∀ f j, 1 ≤ j → j ≤ n → n - j < f → wX_largestOf_5 post x used (nI n) (nI q) led (nI t) fu (fun b => nI (p b)) (fun b => nI (lv b)) own (fun b => nI (am b)) s1 s2 wl wy f (nI (cu_bs led used own am x j)) (nI j) := by
  intro f
  induction f with
  | zero => intro j _ _ z; omega
  | succ f ih =>
    intro j h1 hj hf
    refine pk_le n j (fun z => ?_) (fun z => ?_)
    · rw [show j = n by omega]; exact h
    · have i := ih (j + 1) (by omega) (by omega) (by omega)
      have keep : ¬ (bt led j = true ∧ own j = x ∧ bt used j = false ∧ (cu_bs led used own am x j = 0 ∨ am (cu_bs led used own am x j) < am j)) → wX_largestOf_5 post x used (nI n) (nI q) led (nI t) fu (fun b => nI (p b)) (fun b => nI (lv b)) own (fun b => nI (am b)) s1 s2 wl wy f (nI (cu_bs led used own am x j)) (nI (j + 1)) := by
        intro w; rw [cu_bs_f w] at i; exact i
      have take : (bt led j = true ∧ own j = x ∧ bt used j = false ∧ (cu_bs led used own am x j = 0 ∨ am (cu_bs led used own am x j) < am j)) → wX_largestOf_5 post x used (nI n) (nI q) led (nI t) fu (fun b => nI (p b)) (fun b => nI (lv b)) own (fun b => nI (am b)) s1 s2 wl wy f (nI j) (nI (j + 1)) := by
        intro w; rw [cu_bs_t w] at i; exact i
      have hb := cu_bs_l (led := led) (used := used) (own := own) (am := am) (x := x) j
      have vj : vp_in (nI j) 20 := vp_in_nI (by omega) (by omega)
      have vb : vp_in (nI (cu_bs led used own am x j)) 20 := vp_in_nI (by omega) (by omega)
      have ej : (fun b => nI (am b)) (nI j).toNatClampNeg = nI (am j) := cu_rd (f := fun b => nI (am b)) (by omega)
      have eb : (fun b => nI (am b)) (nI (cu_bs led used own am x j)).toNatClampNeg = nI (am (cu_bs led used own am x j)) := cu_rd (f := fun b => nI (am b)) (by omega)
      have eo : own (nI j).toNatClampNeg = own j := cu_rd (by omega)
      refine cu_x_l hn h1 z (fun e => br_f (by decide) (And.intro vj ?_)) (fun e => br_t rfl (nm_r (nI_1 j) (keep (fun w => ?_))))
      · rw [eo]
        refine br_c (fun eow => br_c (fun eu => pk_eq (cu_bs led used own am x j) 0 (fun e0 => nm_r (nI_1 j) (take ⟨e, eow, (cu_bit (by omega)).mp eu, Or.inl e0⟩)) (fun e0 => And.intro vj (And.intro vb (pk_le (am j) (am (cu_bs led used own am x j)) (fun g => nm_r (nI_1 j) (keep (fun w => ?_))) (fun g => nm_r (nI_1 j) (take ⟨e, eow, (cu_bit (by omega)).mp eu, Or.inr g⟩)) ej eb (hA _) (hA _))))) (fun eu => nm_r (nI_1 j) (keep (fun w => eu ((cu_bit (by omega)).mpr w.2.2.1))))) (fun eow => nm_r (nI_1 j) (keep (fun w => eow w.2.1)))
        rcases w.2.2.2 with w | w
        · exact e0 w
        · omega
      · rw [e] at w; exact Bool.noConfusion w.1
theorem cu_x_g {post : Int32 → Prop} {x used : Int32} (hn1 : 1 ≤ n) (hn : n ≤ 20) (hA : ∀ b, am b < 2 ^ 31) (h : post (nI (cu_bs led used own am x n))) : wpX_largestOf post (cu_X n q led t fu p lv own am s1 s2 wl wy) x used := by
  refine ⟨n + 1, ?_⟩
  have i := cu_x_g5 (q := q) (t := t) (fu := fu) (p := p) (lv := lv) (s1 := s1) (s2 := s2) (wl := wl) (wy := wy) hn hA h (n + 1) 1 (Nat.le_refl 1) hn1 (by omega)
  rw [show cu_bs led used own am x 1 = 0 from Nat.le_zero.mp (by show (if _ then 0 else 0) ≤ 0; split <;> exact Nat.le_refl 0)] at i
  exact i
theorem cu_y_g4 {post : Int32 → Prop} {x used : Int32} (G : cu_G n p lv own am s1 s2) (ht : t < n) (L : cu_LS own am (cu_F p s1 s2 t) led wl) (hk : ∀ c, c < 20 → (tk c = 0 ↔ bt used c = false)) (h : post (nI (cu_bs led used own am x n))) : ∀ f j, 1 ≤ j → j ≤ n → n - j < f → wY_greatest_4 post x (nI n) (nI t) fu (cu_ps p) own (fun b => nI (am b)) s1 s2 tk f (nI (cu_bs led used own am x j)) (nI j) := by
  have hn := G.1.2
  have hA := G.2.2.2.2.1.2
  intro f
  induction f with
  | zero => intro j _ _ z; omega
  | succ f ih =>
    intro j h1 hj hf
    refine pk_le n j (fun z => ?_) (fun z => ?_)
    · rw [show j = n by omega]; exact h
    · have i := ih (j + 1) (by omega) (by omega) (by omega)
      have keep : ¬ (bt led j = true ∧ own j = x ∧ bt used j = false ∧ (cu_bs led used own am x j = 0 ∨ am (cu_bs led used own am x j) < am j)) → wY_greatest_4 post x (nI n) (nI t) fu (cu_ps p) own (fun b => nI (am b)) s1 s2 tk f (nI (cu_bs led used own am x j)) (nI (j + 1)) := by
        intro w; rw [cu_bs_f w] at i; exact i
      have take : (bt led j = true ∧ own j = x ∧ bt used j = false ∧ (cu_bs led used own am x j = 0 ∨ am (cu_bs led used own am x j) < am j)) → wY_greatest_4 post x (nI n) (nI t) fu (cu_ps p) own (fun b => nI (am b)) s1 s2 tk f (nI j) (nI (j + 1)) := by
        intro w; rw [cu_bs_t w] at i; exact i
      have hb := cu_bs_l (led := led) (used := used) (own := own) (am := am) (x := x) j
      have vj : vp_in (nI j) 20 := vp_in_nI (by omega) (by omega)
      have vb : vp_in (nI (cu_bs led used own am x j)) 20 := vp_in_nI (by omega) (by omega)
      have ej : (fun b => nI (am b)) (nI j).toNatClampNeg = nI (am j) := cu_rd (f := fun b => nI (am b)) (by omega)
      have eb : (fun b => nI (am b)) (nI (cu_bs led used own am x j)).toNatClampNeg = nI (am (cu_bs led used own am x j)) := cu_rd (f := fun b => nI (am b)) (by omega)
      have eo : own (nI j).toNatClampNeg = own j := cu_rd (by omega)
      have et : tk (nI j).toNatClampNeg = tk j := cu_rd (by omega)
      refine And.intro vj ?_
      rw [et, eo]
      refine br_c (fun eu => And.intro vj (br_c (fun eow => cu_y_fl G ht L z (fun e => br_f (by decide) (pk_eq (cu_bs led used own am x j) 0 (fun e0 => nm_r (nI_1 j) (take ⟨e, eow, (hk j (by omega)).mp eu, Or.inl e0⟩)) (fun e0 => And.intro vj (And.intro vb (pk_le (am j) (am (cu_bs led used own am x j)) (fun g => nm_r (nI_1 j) (keep (fun w => ?_))) (fun g => nm_r (nI_1 j) (take ⟨e, eow, (hk j (by omega)).mp eu, Or.inr g⟩)) ej eb (hA _) (hA _)))))) (fun e => br_t rfl (nm_r (nI_1 j) (keep (fun w => ?_))))) (fun eow => nm_r (nI_1 j) (keep (fun w => eow w.2.1))))) (fun eu => nm_r (nI_1 j) (keep (fun w => eu ((hk j (by omega)).mpr w.2.2.1))))
      · rcases w.2.2.2 with w | w
        · exact e0 w
        · omega
      · rw [e] at w; exact Bool.noConfusion w.1
theorem cu_y_g {post : Int32 → Prop} {x used : Int32} (G : cu_G n p lv own am s1 s2) (ht : t < n) (L : cu_LS own am (cu_F p s1 s2 t) led wl) (hk : ∀ c, c < 20 → (tk c = 0 ↔ bt used c = false)) (h : post (nI (cu_bs led used own am x n))) : wpY_greatest post (cu_Y n t fu p own am s1 s2 tk) x := by
  refine ⟨n + 1, ?_⟩
  have i := cu_y_g4 (fu := fu) G ht L hk h (n + 1) 1 (Nat.le_refl 1) G.1.1 (by omega)
  rw [show cu_bs led used own am x 1 = 0 from Nat.le_zero.mp (by show (if _ then 0 else 0) ≤ 0; split <;> exact Nat.le_refl 0)] at i
  exact i
end
end
section
/-! fewestFor: the two outer loops -/
def cu_tt (am : Nat → Nat) (used : Int32) : Nat := cu_sn (fun c => if bt used c = true then am c else 0) 20
theorem cu_tt_0 (am : Nat → Nat) : cu_tt am 0 = 0 := by
  have h : cu_tt am 0 = cu_sn (fun _ => 0) 20 := cu_sn_c 20 (fun j _ => if_neg (by rw [b_0]; exact Bool.noConfusion))
  rw [h]; rfl
theorem cu_cn_0 : cu_cn (bt 0) 20 = 0 := by
  have h : cu_cn (bt 0) 20 = cu_sn (fun _ => 0) 20 := cu_sn_c 20 (fun j _ => if_neg (by rw [b_0]; exact Bool.noConfusion))
  rw [h]; rfl
theorem cu_tt_g {am : Nat → Nat} {used : Int32} {g : Nat} (hg : g < 20) (h : bt used g = false) : cu_tt am (used ||| ((1 : Int32) <<< (nI g &&& 31))) = cu_tt am used + am g := by
  refine cu_sn_a (c := g) ?_ 20 hg (fun j hj hne => ?_)
  · show (if bt (used ||| ((1 : Int32) <<< (nI g &&& 31))) g = true then am g else 0) = (if bt used g = true then am g else 0) + am g
    rw [cu_bgv (by omega) (by omega), h, if_pos (by simp), if_neg (by simp), Nat.zero_add]
  · show (if bt (used ||| ((1 : Int32) <<< (nI g &&& 31))) j = true then am j else 0) = (if bt used j = true then am j else 0)
    rw [cu_bgv (by omega) (by omega), decide_eq_false hne, Bool.or_false]
theorem cu_cn_g {used : Int32} {g : Nat} (hg : g < 20) (h : bt used g = false) : cu_cn (bt (used ||| ((1 : Int32) <<< (nI g &&& 31)))) 20 = cu_cn (bt used) 20 + 1 := by
  refine cu_sn_a (c := g) ?_ 20 hg (fun j hj hne => ?_)
  · show (if bt (used ||| ((1 : Int32) <<< (nI g &&& 31))) g = true then 1 else 0) = (if bt used g = true then 1 else 0) + 1
    rw [cu_bgv (by omega) (by omega), h, if_pos (by simp), if_neg (by simp)]
  · show (if bt (used ||| ((1 : Int32) <<< (nI g &&& 31))) j = true then 1 else 0) = (if bt used j = true then 1 else 0)
    rw [cu_bgv (by omega) (by omega), decide_eq_false hne, Bool.or_false]
theorem cu_cn_19 {L : Nat → Bool} (h : L 0 = false) : cu_cn L 20 ≤ 19 := by
  have e : cu_sn (fun j => if j = 0 then 0 else 1) 20 = 19 := by decide
  rw [← e]
  refine cu_sn_l 20 (fun j _ => ?_)
  show (if L j = true then 1 else 0) ≤ if j = 0 then 0 else 1
  by_cases z : j = 0
  · rw [z, h, if_neg (by simp), if_pos rfl]; exact Nat.le_refl 0
  · rw [if_neg z]; split <;> omega
theorem cu_le64 {x : Int32} {T : Nat} (hT : T < 2 ^ 31) : x.toInt64 ≤ lN T ↔ x.toInt ≤ (T : Int) := by
  rw [Int64.le_iff_toInt_le, Int32.toInt_toInt64, lN_toInt hT]
theorem cu_lt64 {x : Int32} {T : Nat} (hT : T < 2 ^ 31) : 0 < x.toInt64 - lN T ↔ (T : Int) < x.toInt := by
  have h1 := x.le_toInt
  have h2 := x.toInt_lt
  have e : (x.toInt64 - lN T).toInt = x.toInt - T := by
    rw [Int64.toInt_sub, Int32.toInt_toInt64, lN_toInt hT]
    exact Int.bmod_eq_of_le (by omega) (by omega)
  rw [Int64.lt_iff_toInt_lt, e, show (0 : Int64).toInt = 0 from by decide]
  omega
theorem cu_sb64 (a b c : Int64) : a - b - c = a - (b + c) := by grind
/-- what is taken: coins of the ledger, of one owner -/
def cu_U (led used : Int32) (own : Nat → Int32) (o : Nat) : Prop := ∀ c, c < 20 → bt used c = true → bt led c = true ∧ own c = nI o
/-- taken says so on the other side -/
def cu_K (used : Int32) (tk : Nat → Int32) : Prop := ∀ c, c < 20 → (tk c = 0 ↔ bt used c = false)
theorem cu_U_0 {led : Int32} {own : Nat → Int32} {o : Nat} : cu_U led 0 own o := fun c _ z => by rw [b_0] at z; exact Bool.noConfusion z
theorem cu_K_0 {tk : Nat → Int32} (h : ∀ c, c < 20 → tk c = 0) : cu_K 0 tk := fun c hc => ⟨fun _ => b_0 c, fun _ => h c hc⟩
theorem cu_U_g {led used : Int32} {own : Nat → Int32} {o g : Nat} (h : cu_U led used own o) (hg : g < 20) (h1 : bt led g = true) (h2 : own g = nI o) : cu_U led (used ||| ((1 : Int32) <<< (nI g &&& 31))) own o := by
  intro c hc z
  rw [cu_bgv (by omega) (by omega)] at z
  by_cases e : c = g
  · rw [e]; exact ⟨h1, h2⟩
  · rw [decide_eq_false e, Bool.or_false] at z
    exact h c hc z
theorem cu_K_g {used : Int32} {g : Nat} {tk : Nat → Int32} (h : cu_K used tk) (hg : g < 20) : cu_K (used ||| ((1 : Int32) <<< (nI g &&& 31))) (upd tk g 1) := by
  intro c hc
  rw [cu_bgv (by omega) (by omega)]
  by_cases e : c = g
  · rw [e, pk_us, decide_eq_true rfl, Bool.or_true]
    exact ⟨fun z => absurd z (by decide), fun z => Bool.noConfusion z⟩
  · rw [pk_un e, decide_eq_false e, Bool.or_false]
    exact h c hc
section
variable {n q t : Nat} {led fu : Int32} {p lv : Nat → Nat} {own : Nat → Int32} {am : Nat → Nat} {s1 s2 : Nat → Int32} {wl : Nat → Int64} {wy tk : Nat → Int32}
theorem cu_w_b {x : Int32} (G : cu_G n p lv own am s1 s2) (ht : t < n) (L : cu_LS own am (cu_F p s1 s2 t) led wl) : cu_sn (cu_w (bt led) own am x) 20 < 2 ^ 31 := by
  have h := cu_sn_b (f := cu_w (bt led) own am x) 20 (fun j hj => by
    cases e : bt led j with
    | false => rw [cu_w_f e]; exact Nat.zero_le _
    | true =>
      have hF := (L.1 j hj).mp e
      have h1 := cu_F_le G.2.1 hF
      have h2 := (G.2.2.2.2.2.1 j hF.1 (by omega)).2
      unfold cu_w
      split
      · exact h2
      · exact Nat.zero_le _)
  exact Nat.lt_trans h (by decide)
theorem cu_tt_l {used : Int32} {o : Nat} (U : cu_U led used own o) : cu_tt am used ≤ cu_sn (cu_w (bt led) own am (nI o)) 20 := by
  refine cu_sn_l 20 (fun j hj => ?_)
  show (if bt used j = true then am j else 0) ≤ _
  by_cases e : bt used j = true
  · rw [if_pos e, cu_w_t (U j hj e).1 (U j hj e).2]; exact Nat.le_refl _
  · rw [if_neg e]; exact Nat.zero_le _
/-- no coin is left: all is taken -/
theorem cu_tt_a {used : Int32} {o : Nat} (G : cu_G n p lv own am s1 s2) (ht : t < n) (L : cu_LS own am (cu_F p s1 s2 t) led wl) (h : ∀ c, 1 ≤ c → c < n → ¬ (bt led c = true ∧ own c = nI o ∧ bt used c = false)) : cu_sn (cu_w (bt led) own am (nI o)) 20 ≤ cu_tt am used := by
  refine cu_sn_l 20 (fun j hj => ?_)
  show _ ≤ (if bt used j = true then am j else 0)
  by_cases e : bt led j = true ∧ own j = nI o
  · have hF := (L.1 j hj).mp e.1
    have h1 := cu_F_le G.2.1 hF
    have h2 : bt used j = true := by
      cases z : bt used j with
      | true => rfl
      | false => exact absurd ⟨e.1, e.2, z⟩ (h j hF.1 (by omega))
    rw [if_pos h2, cu_w_t e.1 e.2]; exact Nat.le_refl _
  · unfold cu_w
    rw [if_neg e]; exact Nat.zero_le _
theorem cu_few {o : Nat} {x : Int32} (G : cu_G n p lv own am s1 s2) (ht : t < n) (L : cu_LS own am (cu_F p s1 s2 t) led wl) (hz : x.toInt ≤ (cu_sn (cu_w (bt led) own am (nI o)) 20 : Nat)) : ∀ d k used, k + d = 20 → cu_cn (bt used) 20 = k → cu_U led used own o → ∃ r, (∀ (post : Int32 → Prop) f, d < f → post r → wX_fewestFor_34 post (nI o) x (nI n) (nI q) led (nI t) fu (fun b => nI (p b)) (fun b => nI (lv b)) own (fun b => nI (am b)) s1 s2 wl wy f (lN (cu_tt am used)) (nI k) used) ∧ (∀ (tk : Nat → Int32) (post : Int32 → SY → Prop) f, cu_K used tk → d < f → (∀ tz, post r (cu_Y n t fu p own am s1 s2 tz)) → wY_fewestFor_38 post (nI o) (nI n) (nI t) fu f (x.toInt64 - lN (cu_tt am used)) (nI k) (cu_ps p) own (fun b => nI (am b)) s1 s2 tk) := by
  have hn := G.1.2
  have hA := G.2.2.2.2.1.2
  have hB := cu_w_b (x := nI o) G ht L
  intro d
  induction d with
  | zero =>
    intro k used hk hc U
    have h0 : bt used 0 = false := by
      cases e : bt used 0 with
      | false => rfl
      | true =>
        have := (U 0 (by omega) e).1
        rw [cu_b0 L] at this
        exact Bool.noConfusion this
    have := cu_cn_19 h0
    omega
  | succ d ih =>
    intro k used hk hc U
    have hT := Nat.lt_of_le_of_lt (cu_tt_l (am := am) U) hB
    by_cases z : x.toInt ≤ (cu_tt am used : Nat)
    · refine ⟨nI k, fun post f hf hpost => ?_, fun tk post f hK hf hpost => ?_⟩
      · cases f with
        | zero => omega
        | succ f => exact br_t ((cu_le64 hT).mpr z) hpost
      · cases f with
        | zero => omega
        | succ f => exact pk_le 20 k (fun w => by omega) (fun _ => br_f (fun w => by have := (cu_lt64 hT).mp w; omega) (hpost tk))
    · rcases cu_bs_p (led := led) (used := used) (own := own) (am := am) (x := nI o) n with ⟨_, b1⟩ | ⟨b0, b1, b2, b3, b4⟩
      · have := cu_tt_a G ht L b1
        omega
      · have hg : cu_bs led used own am (nI o) n < 20 := by omega
        have U2 := cu_U_g U hg b2 b3
        obtain ⟨r, hX, hY⟩ := ih (k + 1) (used ||| ((1 : Int32) <<< (nI (cu_bs led used own am (nI o) n) &&& 31))) (by omega) (by rw [cu_cn_g hg b4, hc]) U2
        rw [cu_tt_g hg b4] at hX hY
        have vg : vp_in (nI (cu_bs led used own am (nI o) n)) 20 := vp_in_nI hg (by omega)
        refine ⟨r, fun post f hf hpost => ?_, fun tk post f hK hf hpost => ?_⟩
        · cases f with
          | zero => omega
          | succ f =>
            refine br_f (fun w => z ((cu_le64 hT).mp w)) (cu_x_g G.1.1 hn hA (nm_e (And.intro vg (nm_r (e' := lN (cu_tt am used + am (cu_bs led used own am (nI o) n))) ?_ (nm_r (nI_1 k) (hX post f (by omega) hpost))))))
            rw [nI_clamp (n := cu_bs led used own am (nI o) n) (by omega), nI_l (hA _), lN_add]
        · cases f with
          | zero => omega
          | succ f =>
            refine pk_le 20 k (fun w => by omega) (fun _ => br_t ((cu_lt64 hT).mpr (by omega)) (cu_y_g G ht L hK (br_f (nI_ne0 b0 (by omega)) (And.intro vg (nm_r (e' := upd tk (cu_bs led used own am (nI o) n) 1) ?_ (And.intro vg (nm_r (e' := x.toInt64 - lN (cu_tt am used + am (cu_bs led used own am (nI o) n))) ?_ (nm_r (nI_1 k) (hY _ post f (cu_K_g hK hg) (by omega) hpost)))))))))
            · rw [cu_u_c hg]; rfl
            · rw [nI_clamp (n := cu_bs led used own am (nI o) n) (by omega), nI_l (hA _), cu_sb64, lN_add]
theorem cu_poor {post : Int32 → SY → Prop} {o : Nat} {x : Int32} (G : cu_G n p lv own am s1 s2) (ht : t < n) (L : cu_LS own am (cu_F p s1 s2 t) led wl) (hz : (cu_sn (cu_w (bt led) own am (nI o)) 20 : Nat) < x.toInt) (hpost : ∀ tz, post (-4) (cu_Y n t fu p own am s1 s2 tz)) : ∀ f k used tk, k ≤ 20 → 20 - k < f → cu_U led used own o → cu_K used tk → wY_fewestFor_38 post (nI o) (nI n) (nI t) fu f (x.toInt64 - lN (cu_tt am used)) (nI k) (cu_ps p) own (fun b => nI (am b)) s1 s2 tk := by
  have hn := G.1.2
  have hA := G.2.2.2.2.1.2
  have hB := cu_w_b (x := nI o) G ht L
  intro f
  induction f with
  | zero => intro k used tk _ z; omega
  | succ f ih =>
    intro k used tk hk hf U hK
    have hl := cu_tt_l (am := am) U
    have hT := Nat.lt_of_le_of_lt hl hB
    refine pk_le 20 k (fun _ => hpost tk) (fun hk2 => br_t ((cu_lt64 hT).mpr (by omega)) (cu_y_g G ht L hK ?_))
    rcases cu_bs_p (led := led) (used := used) (own := own) (am := am) (x := nI o) n with ⟨b0, b1⟩ | ⟨b0, b1, b2, b3, b4⟩
    · rw [b0]; exact br_t rfl (hpost tk)
    · have hg : cu_bs led used own am (nI o) n < 20 := by omega
      have i := ih (k + 1) (used ||| ((1 : Int32) <<< (nI (cu_bs led used own am (nI o) n) &&& 31))) (upd tk (cu_bs led used own am (nI o) n) 1) (by omega) (by omega) (cu_U_g U hg b2 b3) (cu_K_g hK hg)
      rw [cu_tt_g hg b4] at i
      have vg : vp_in (nI (cu_bs led used own am (nI o) n)) 20 := vp_in_nI hg (by omega)
      refine br_f (nI_ne0 b0 (by omega)) (And.intro vg (nm_r (e' := upd tk (cu_bs led used own am (nI o) n) 1) ?_ (And.intro vg (nm_r (e' := x.toInt64 - lN (cu_tt am used + am (cu_bs led used own am (nI o) n))) ?_ (nm_r (nI_1 k) i)))))
      · rw [cu_u_c hg]; rfl
      · rw [nI_clamp (n := cu_bs led used own am (nI o) n) (by omega), nI_l (hA _), cu_sb64, lN_add]
theorem cu_y_13 {post : Int32 → SY → Prop} {x y : Int32} {aa : Nat → Int32} (K : ∀ tz, (∀ c, c < 20 → tz c = 0) → ∃ f, wY_fewestFor_38 post x (nI n) (nI t) fu f y.toInt64 0 (cu_ps p) own aa s1 s2 tz) : ∀ f j tk, j ≤ 20 → 20 - j < f → (∀ c, c < j → tk c = 0) → wY_fewestFor_13 post x y (nI n) (nI t) fu f (nI j) (cu_ps p) own aa s1 s2 tk := by
  intro f
  induction f with
  | zero => intro j tk _ z; omega
  | succ f ih =>
    intro j tk hj hf h
    refine pk_le 20 j (fun z => K tk (fun c hc => h c (by omega))) (fun z => And.intro (vp_in_nI (by omega) (by omega)) (nm_r (e' := upd tk j 0) ?_ (nm_r (nI_1 j) (ih (j + 1) (upd tk j 0) (by omega) (by omega) (fun c hc => ?_)))))
    · rw [cu_u_c (by omega)]; rfl
    · by_cases e : c = j
      · rw [e, pk_us]
      · rw [pk_un e]; exact h c (by omega)
/-- pay: the two ends of the component's walk -/
theorem cu_x_p0 {post : Int32 → SX → Prop} {a : Nat} {x1 x2 x3 x4 : Int32} (G : cu_G n p lv own am s1 s2) (ht : t < n) (ha : a < n) (L : cu_LS own am (cu_F p s1 s2 a) led wl) (K : ∀ ld w wz, cu_LS own am (cu_F p s1 s2 t) ld w → post (-3) (cu_X n t ld t fu p lv own am s1 s2 w wz)) : wX_pay_70 post x1 x2 x3 x4 (nI n) (nI a) led (nI t) fu (fun b => nI (p b)) (fun b => nI (lv b)) own (fun b => nI (am b)) s1 s2 wl wy := by
  obtain ⟨m, hM⟩ := cu_M_ex G.2.1 (a + t) a t rfl
  unfold wX_pay_70 wX_pay_71
  exact cu_x_mv G ha ht hM L (fun ld w wz L2 => br_t rfl (K ld w wz L2))
theorem cu_x_p1 {post : Int32 → SX → Prop} {a c x : Nat} {x1 x2 x4 : Int32} (G : cu_G n p lv own am s1 s2) (ht : t < n) (ha : a < n) (hc : c < 20) (h4 : (x4 = -1 ∧ x = am c) ∨ ∃ d, d < 20 ∧ x4 = nI d ∧ x = am c + am d) (L : cu_LS own am (cu_F p s1 s2 a) led wl) (K : ∀ ld w wz, cu_LS own am (cu_F p s1 s2 t) ld w → wX_pay_115 post x1 x2 (nI c) x4 (nI x) (nI n) (nI t) ld (nI t) fu (fun b => nI (p b)) (fun b => nI (lv b)) own (fun b => nI (am b)) s1 s2 w wz) : wX_pay_66 post x1 x2 (nI c) x4 (nI n) (nI a) led (nI t) fu (fun b => nI (p b)) (fun b => nI (lv b)) own (fun b => nI (am b)) s1 s2 wl wy := by
  obtain ⟨m, hM⟩ := cu_M_ex G.2.1 (a + t) a t rfl
  unfold wX_pay_66 wX_pay_71
  refine cu_x_mv G ha ht hM L (fun ld w wz L2 => br_f (by decide) (And.intro (vp_in_nI hc (by omega)) (nm_r (cu_rd (f := fun b => nI (am b)) hc) ?_)))
  rcases h4 with ⟨e, ex⟩ | ⟨d, hd, e, ex⟩
  · have k := K ld w wz L2
    rw [e] at k ⊢
    rw [ex] at k
    exact br_t (by decide) k
  · have k := K ld w wz L2
    rw [e] at k ⊢
    rw [ex] at k
    refine br_f (nI_pos (by omega)) (And.intro (vp_in_nI hd (by omega)) (nm_r (e' := nI (am c + am d)) ?_ k))
    rw [nI_clamp (n := d) (by omega), nI_add]
end
end
section
/-! what is owed -/
theorem i_up {k : Nat} {u : SX} {v : SY} (h : i_Rel k u v) : i_Rel (k + 5) u v := h
theorem cu_nb {n : Nat} {x : Int32} (hn : n ≤ 20) (h : x < 0 ∨ nI n ≤ x) {c : Nat} (hc : c < n) (e : x = nI c) : False := by
  rw [e] at h
  rcases h with h | h
  · exact nI_pos (by omega) h
  · exact nI_ge hc (by omega) h
theorem cu_init : i_Rel 0 (cu_X 1 0 0 0 0 (fun _ => 0) (fun _ => 0) (fun _ => 0) (fun _ => 0) (upd (fun _ => 0) 0 (-1)) (upd (fun _ => 0) 0 (-1)) (fun _ => 0) (fun _ => 0)) (cu_Y 1 0 0 (fun _ => 0) (fun _ => 0) (fun _ => 0) (upd (fun _ => 0) 0 (-1)) (upd (fun _ => 0) 0 (-1)) (fun _ => 0)) := by
  have hp : cu_P (fun _ => 0) := ⟨rfl, fun b hb => hb⟩
  refine cu_mk ⟨⟨by omega, by omega⟩, hp, ⟨rfl, fun b h1 h2 => by omega⟩, fun b => ⟨0, by omega, rfl⟩, ⟨rfl, fun _ => by decide⟩, fun b h1 h2 => by omega, ⟨⟨rfl, rfl⟩, fun b h1 h2 => by omega⟩⟩ (by omega) ⟨fun c hc => ⟨fun z => ?_, fun h => ?_⟩, fun o ho => ?_⟩ 0
  · rw [b_0] at z; exact Bool.noConfusion z
  · have h1 := cu_anc_z hp h.2.1
    have h2 := h.1
    omega
  · rw [cu_sn_c (g := fun _ => 0) 20 (fun j _ => cu_w_f (b_0 j))]
    rfl
theorem i_vc0 : wpX_init (fun u => wpY_init (fun v => i_Rel 0 u v)) := by
  have h : vp_nar .byte (-1) = (-1 : Int32) := by rw [vp_nar_byte]; decide
  intro a ea b eb
  intro c ec d ed e ee
  rw [h] at ea eb
  rw [ea, eb, ec, ed, ee]
  exact cu_init
theorem cu_pw {c n : Nat} (h : c < n) : 2 * 2 ^ c ≤ 2 ^ n := by
  have : 2 ^ (c + 1) ≤ 2 ^ n := Nat.pow_le_pow_right (by decide) h
  rw [Nat.pow_succ] at this
  omega
theorem i_vc_mint {k : Nat} {u : SX} {v : SY} (I : i_Rel k u v) (hk : k + 5 ≤ 2560) (v1 : Int32) (v2 : Int32) (v3 : Int32) : wpX_mint (fun r u' => wpY_mint (fun r' v' => r' = r ∧ i_Rel (k + 5) u' v') v v1 v2 v3) u v1 v2 v3 := by
  refine cu_el (P := fun u v => wpX_mint (fun r u' => wpY_mint (fun r' v' => r' = r ∧ i_Rel (k + 5) u' v') v v1 v2 v3) u v1 v2 v3) ?_ I
  intro n t led fu p lv own am s1 s2 wl wy tk G ht L
  have hn := G.1.2
  have R := cu_mk (fu := fu) (wy := wy) (tk := tk) G ht L (k + 5)
  by_cases hn2 : n = 20
  · exact pk_lt n 20 (fun w => by omega) (fun _ => pk_eq n 20 (fun _ => And.intro rfl R) (fun w => absurd hn2 w))
  · refine pk_lt n 20 (fun hn3 => ?_) (fun w => by omega)
    have bad : (v1 < 0 ∨ nI n ≤ v1) ∨ ∃ a, a < n ∧ v1 = nI a := by
      rcases pk_ix v1 (n := n) (by omega) with z | z | z
      · exact Or.inl (Or.inl z)
      · exact Or.inl (Or.inr z)
      · exact Or.inr z
    rcases bad with z | ⟨a, ha, rfl⟩
    · exact cu_x_b hn (fun c hc e => (cu_nb hn z hc e).elim) (fun _ => br_t rfl (pk_eq n 20 (fun w => absurd w hn2) (fun _ => cu_y_b hn (fun c hc e => (cu_nb hn z hc e).elim) (fun _ => br_t rfl (And.intro rfl R)))))
    · refine cu_x_b hn (fun c hc e => br_f (by decide) ?_) (fun w => (cu_nb hn w ha rfl).elim)
      by_cases z2 : v2 < 0
      · exact br_t z2 (pk_eq n 20 (fun w => absurd w hn2) (fun _ => cu_y_b hn (fun c hc e => br_f (by decide) (br_t z2 (And.intro rfl R))) (fun w => (cu_nb hn w ha rfl).elim)))
      · by_cases z3 : 3 < v2
        · exact br_f z2 (br_t z3 (pk_eq n 20 (fun w => absurd w hn2) (fun _ => cu_y_b hn (fun c hc e => br_f (by decide) (br_f z2 (br_t z3 (And.intro rfl R)))) (fun w => (cu_nb hn w ha rfl).elim))))
        · by_cases z4 : v3 < 1
          · exact br_f z2 (br_f z3 (br_t z4 (pk_eq n 20 (fun w => absurd w hn2) (fun _ => cu_y_b hn (fun c hc e => br_f (by decide) (br_f z2 (br_f z3 (br_t z4 (And.intro rfl R))))) (fun w => (cu_nb hn w ha rfl).elim)))))
          · by_cases z5 : v3 ≤ 100
            · have z6 : ¬ v3 < 0 := fun w => z4 (Int32.lt_trans w (by decide))
              obtain ⟨o, ho, rfl⟩ := nI_of2 (M := 3) (n := 3) (by decide) z2 (Int32.not_lt.mp z3)
              obtain ⟨x, hx, rfl⟩ := nI_of2 (M := 100) (n := 100) (by decide) z6 z5
              have hx1 : 1 ≤ x := by
                rcases Nat.eq_zero_or_pos x with e | e
                · rw [e] at z4; exact absurd (by decide) z4
                · exact e
              have hx2 : 1 ≤ 2 ^ n := Nat.one_le_two_pow
              refine br_f z2 (br_f z3 (br_f z4 (br_t z5 ?_)))
              refine cu_add (tk := tk) G hn3 ht ha (by omega) ⟨hx1, by omega⟩ (Or.inl rfl) (Or.inl rfl) (fun _ => rfl) L (fun N T ld U P V O A S1 S2 w wz RR YY => ?_)
              refine pk_eq n 20 (fun w => absurd w hn2) (fun _ => cu_y_b hn (fun c hc e => br_f (by decide) (br_f z2 (br_f z3 (br_f z4 (br_t z5 ?_))))) (fun w => (cu_nb hn w ha rfl).elim))
              refine YY _ ?_
              exact And.intro rfl (RR _)
            · exact br_f z2 (br_f z3 (br_f z4 (br_f z5 (pk_eq n 20 (fun w => absurd w hn2) (fun _ => cu_y_b hn (fun c hc e => br_f (by decide) (br_f z2 (br_f z3 (br_f z4 (br_f z5 (And.intro rfl R)))))) (fun w => (cu_nb hn w ha rfl).elim))))))
theorem i_vc_pay {k : Nat} {u : SX} {v : SY} (I : i_Rel k u v) (hk : k + 5 ≤ 2560) (v1 : Int32) (v2 : Int32) (v3 : Int32) (v4 : Int32) : wpX_pay (fun r u' => wpY_pay (fun r' v' => r' = r ∧ i_Rel (k + 5) u' v') v v1 v2 v3 v4) u v1 v2 v3 v4 := by
  refine cu_el (P := fun u v => wpX_pay (fun r u' => wpY_pay (fun r' v' => r' = r ∧ i_Rel (k + 5) u' v') v v1 v2 v3 v4) u v1 v2 v3 v4) ?_ I
  intro n t led fu p lv own am s1 s2 wl wy tk G ht L
  have hn := G.1.2
  have hp := G.2.1
  have hV := G.2.2.1
  have hQ := G.2.2.2.2.2.2.1
  have R := cu_mk (fu := fu) (wy := wy) (tk := tk) G ht L (k + 5)
  by_cases hn2 : n = 20
  · exact pk_lt n 20 (fun w => by omega) (fun _ => pk_eq n 20 (fun _ => And.intro rfl R) (fun w => absurd hn2 w))
  · refine pk_lt n 20 (fun hn3 => ?_) (fun w => by omega)
    have bad : (v1 < 0 ∨ nI n ≤ v1) ∨ ∃ a, a < n ∧ v1 = nI a := by
      rcases pk_ix v1 (n := n) (by omega) with z | z | z
      · exact Or.inl (Or.inl z)
      · exact Or.inl (Or.inr z)
      · exact Or.inr z
    rcases bad with z | ⟨a, ha, rfl⟩
    · exact cu_x_b hn (fun c hc e => (cu_nb hn z hc e).elim) (fun _ => br_t rfl (pk_eq n 20 (fun w => absurd w hn2) (fun _ => cu_y_b hn (fun c hc e => (cu_nb hn z hc e).elim) (fun _ => br_t rfl (And.intro rfl R)))))
    · refine cu_x_b hn (fun c hc e => br_f (by decide) ?_) (fun w => (cu_nb hn w ha rfl).elim)
      by_cases z2 : v2 < 0
      · exact br_t z2 (pk_eq n 20 (fun w => absurd w hn2) (fun _ => cu_y_b hn (fun c hc e => br_f (by decide) (br_t z2 (And.intro rfl R))) (fun w => (cu_nb hn w ha rfl).elim)))
      · by_cases z3 : v2 ≤ 3
        · obtain ⟨o, ho, rfl⟩ := nI_of2 (M := 3) (n := 3) (by decide) z2 z3
          obtain ⟨m, hM⟩ := cu_M_ex hp (t + a) t a rfl
          refine br_f z2 (br_t z3 (cu_x_mv G ht ha hM L (fun ld w wz L2 => ?_)))
          by_cases H1 : cu_H n p s1 s2 a v3
          · obtain ⟨c, hc, rfl, hF⟩ := id H1
            have hca := cu_F_le hp hF
            have hac := G.2.2.2.2.2.1 c hF.1 (by omega)
            have hpc := cu_pw (c := c) (n := n) (by omega)
            by_cases e4 : v4 = -1
            · subst e4
              refine cu_x_t hn L2 (fun _ => br_f (by decide) (br_t rfl (cu_x_p1 (x := am c) G ht ha (by omega) (Or.inl ⟨rfl, rfl⟩) L2 (fun ld w wz L3 => ?_)))) (fun h => absurd H1 h)
              unfold wX_pay_115
              refine cu_add (tk := tk) G hn3 ht ha (by omega) ⟨hac.1, by omega⟩ (Or.inr ⟨c, rfl, hF⟩) (Or.inl rfl) (fun e => e) L3 (fun N T ld U P V O A S1 S2 w wz RR YY => ?_)
              refine pk_eq n 20 (fun w => absurd w hn2) (fun _ => cu_y_b hn (fun c hc e => br_f (by decide) (br_f z2 (br_t z3 (br_f (fun w => cu_m1 (by omega) w.symm) (cu_y_f hn hp hV hQ ha (fun _ => br_f (by decide) (br_t rfl ?_)) (fun h => absurd H1 h)))))) (fun w => (cu_nb hn w ha rfl).elim))
              unfold wY_pay_68
              refine And.intro (vp_in_nI (by omega) (by omega)) (br_f (by decide) ?_)
              unfold wY_pay_90
              refine nm_r (e' := nI (am _)) ?_ (YY _ ?_)
              · rw [nI_clamp (by omega)]; exact Int32.add_zero _
              · exact And.intro rfl (RR _)
            · by_cases H2 : cu_H n p s1 s2 a v4
              · obtain ⟨d, hd, rfl, hF2⟩ := id H2
                have hda := cu_F_le hp hF2
                have had := G.2.2.2.2.2.1 d hF2.1 (by omega)
                have hpd := cu_pw (c := d) (n := n) (by omega)
                by_cases e5 : nI d = nI c
                · refine cu_x_t hn L2 (fun _ => br_f (by decide) (br_f e4 (cu_x_t hn L2 (fun _ => br_f (by decide) (br_t e5 (cu_x_p0 G ht ha L2 (fun ld w wz L3 => ?_)))) (fun h => absurd H2 h)))) (fun h => absurd H1 h)
                  exact pk_eq n 20 (fun w => absurd w hn2) (fun _ => cu_y_b hn (fun c hc e => br_f (by decide) (br_f z2 (br_t z3 (br_t e5.symm (And.intro rfl (cu_mk G ht L3 _)))))) (fun w => (cu_nb hn w ha rfl).elim))
                · refine cu_x_t hn L2 (fun _ => br_f (by decide) (br_f e4 (cu_x_t hn L2 (fun _ => br_f (by decide) (br_f e5 (cu_x_p1 (x := am c + am d) G ht ha (by omega) (Or.inr ⟨d, by omega, rfl, rfl⟩) L2 (fun ld w wz L3 => ?_)))) (fun h => absurd H2 h)))) (fun h => absurd H1 h)
                  unfold wX_pay_115
                  refine cu_add (tk := tk) G hn3 ht ha (by omega) ⟨by omega, by omega⟩ (Or.inr ⟨c, rfl, hF⟩) (Or.inr ⟨d, rfl, hF2⟩) (fun e => absurd e.symm e5) L3 (fun N T ld U P V O A S1 S2 w wz RR YY => ?_)
                  refine pk_eq n 20 (fun w => absurd w hn2) (fun _ => cu_y_b hn (fun _ _ e => br_f (by decide) (br_f z2 (br_t z3 (br_f (fun w => e5 w.symm) (cu_y_f hn hp hV hQ ha (fun _ => br_f (by decide) (br_f e4 (cu_y_f hn hp hV hQ ha (fun _ => br_f (by decide) ?_) (fun h => absurd H2 h)))) (fun h => absurd H1 h)))))) (fun w => (cu_nb hn w ha rfl).elim))
                  unfold wY_pay_68
                  refine And.intro (vp_in_nI (by omega) (by omega)) (br_t (nI_pos' (by omega)) (And.intro (vp_in_nI (by omega) (by omega)) ?_))
                  unfold wY_pay_90
                  refine nm_r (e' := nI (am c + am d)) ?_ (YY _ ?_)
                  · rw [nI_clamp (n := c) (by omega), nI_clamp (n := d) (by omega), nI_add]
                  · exact And.intro rfl (RR _)
              · refine cu_x_t hn L2 (fun _ => br_f (by decide) (br_f e4 (cu_x_t hn L2 (fun h => absurd h H2) (fun _ => br_t rfl (cu_x_p0 G ht ha L2 (fun ld w wz L3 => ?_)))))) (fun h => absurd H1 h)
                refine pk_eq n 20 (fun w => absurd w hn2) (fun _ => cu_y_b hn (fun _ _ e => br_f (by decide) (br_f z2 (br_t z3 (br_c (fun _ => And.intro rfl (cu_mk G ht L3 _)) (fun _ => cu_y_f hn hp hV hQ ha (fun _ => br_f (by decide) (br_f e4 (cu_y_f hn hp hV hQ ha (fun h => absurd h H2) (fun _ => br_t rfl ?_)))) (fun h => absurd H1 h)))))) (fun w => (cu_nb hn w ha rfl).elim))
                exact And.intro rfl (cu_mk G ht L3 _)
          · refine cu_x_t hn L2 (fun h => absurd h H1) (fun _ => br_t rfl (cu_x_p0 G ht ha L2 (fun ld w wz L3 => ?_)))
            refine pk_eq n 20 (fun w => absurd w hn2) (fun _ => cu_y_b hn (fun _ _ e => br_f (by decide) (br_f z2 (br_t z3 (br_c (fun _ => And.intro rfl (cu_mk G ht L3 _)) (fun _ => cu_y_f hn hp hV hQ ha (fun h => absurd h H1) (fun _ => br_t rfl ?_)))))) (fun w => (cu_nb hn w ha rfl).elim))
            exact And.intro rfl (cu_mk G ht L3 _)
        · exact br_f z2 (br_f z3 (pk_eq n 20 (fun w => absurd w hn2) (fun _ => cu_y_b hn (fun c hc e => br_f (by decide) (br_f z2 (br_f z3 (And.intro rfl R)))) (fun w => (cu_nb hn w ha rfl).elim))))
end
section
/-! what is owed, the answers -/
theorem i_vc_blocks {k : Nat} {u : SX} {v : SY} (I : i_Rel k u v) (hk : k + 5 ≤ 2560) : wpX_blocks (fun r => wpY_blocks (fun r' => r' = r ∧ i_Rel (k + 5) u v) v) u := by
  refine cu_el (P := fun u v => wpX_blocks (fun r => wpY_blocks (fun r' => r' = r ∧ i_Rel (k + 5) u v) v) u) ?_ I
  intro n t led fu p lv own am s1 s2 wl wy tk G ht L
  exact And.intro rfl (cu_mk G ht L _)
theorem i_vc_tip {k : Nat} {u : SX} {v : SY} (I : i_Rel k u v) (hk : k + 5 ≤ 2560) : wpX_tip (fun r => wpY_tip (fun r' => r' = r ∧ i_Rel (k + 5) u v) v) u := by
  refine cu_el (P := fun u v => wpX_tip (fun r => wpY_tip (fun r' => r' = r ∧ i_Rel (k + 5) u v) v) u) ?_ I
  intro n t led fu p lv own am s1 s2 wl wy tk G ht L
  exact And.intro rfl (cu_mk G ht L _)
theorem i_vc_height {k : Nat} {u : SX} {v : SY} (I : i_Rel k u v) (hk : k + 5 ≤ 2560) (v1 : Int32) : wpX_height (fun r => wpY_height (fun r' => r' = r ∧ i_Rel (k + 5) u v) v v1) u v1 := by
  refine cu_el (P := fun u v => wpX_height (fun r => wpY_height (fun r' => r' = r ∧ i_Rel (k + 5) u v) v v1) u v1) ?_ I
  intro n t led fu p lv own am s1 s2 wl wy tk G ht L
  have hn := G.1.2
  have R := cu_mk (fu := fu) (wy := wy) (tk := tk) G ht L (k + 5)
  show wpX_height _ _ _
  unfold wpX_height wpY_height
  dsimp only
  refine cu_x_b hn (fun c hc e => br_f (by decide) ?_) (fun z => br_t rfl (cu_y_b hn (fun c hc e => (cu_nb hn z hc e).elim) (fun _ => br_t rfl (And.intro rfl R))))
  subst e
  refine And.intro (vp_in_nI (by omega) (by omega)) (cu_y_b hn (fun _ _ _ => br_f (by decide) (cu_y_h hn G.2.1 G.2.2.1 hc (And.intro ?_ R))) (fun w => (cu_nb hn w hc rfl).elim))
  rw [nI_clamp (by omega)]
theorem i_vc_unspent {k : Nat} {u : SX} {v : SY} (I : i_Rel k u v) (hk : k + 5 ≤ 2560) (v1 : Int32) : wpX_unspent (fun r => wpY_unspent (fun r' => r' = r ∧ i_Rel (k + 5) u v) v v1) u v1 := by
  refine cu_el (P := fun u v => wpX_unspent (fun r => wpY_unspent (fun r' => r' = r ∧ i_Rel (k + 5) u v) v v1) u v1) ?_ I
  intro n t led fu p lv own am s1 s2 wl wy tk G ht L
  have hn := G.1.2
  have R := cu_mk (fu := fu) (wy := wy) (tk := tk) G ht L (k + 5)
  show wpX_unspent _ _ _
  unfold wpX_unspent wpY_unspent
  dsimp only
  refine cu_x_t hn L (fun h => And.intro narrow_b1 ?_) (fun h => And.intro narrow_b0 ?_)
  · exact cu_y_f hn G.2.1 G.2.2.1 G.2.2.2.2.2.2.1 ht (fun _ => And.intro narrow_b1 (And.intro rfl R)) (fun z => absurd h z)
  · exact cu_y_f hn G.2.1 G.2.2.1 G.2.2.2.2.2.2.1 ht (fun z => absurd z h) (fun _ => And.intro narrow_b0 (And.intro rfl R))
theorem i_vc_amount {k : Nat} {u : SX} {v : SY} (I : i_Rel k u v) (hk : k + 5 ≤ 2560) (v1 : Int32) : wpX_amount (fun r => wpY_amount (fun r' => r' = r ∧ i_Rel (k + 5) u v) v v1) u v1 := by
  refine cu_el (P := fun u v => wpX_amount (fun r => wpY_amount (fun r' => r' = r ∧ i_Rel (k + 5) u v) v v1) u v1) ?_ I
  intro n t led fu p lv own am s1 s2 wl wy tk G ht L
  have hn := G.1.2
  have R := cu_mk (fu := fu) (wy := wy) (tk := tk) G ht L (k + 5)
  show wpX_amount _ _ _
  unfold wpX_amount wpY_amount
  dsimp only
  refine cu_x_b hn (fun c hc e => br_f (by decide) ?_) (fun z => br_t rfl (br_c (fun _ => And.intro rfl R) (fun _ => cu_y_b hn (fun c hc e => (cu_nb hn z hc e).elim) (fun _ => br_t rfl (And.intro rfl R)))))
  subst e
  refine And.intro (vp_in_nI (by omega) (by omega)) (br_c (fun z => And.intro ?_ R) (fun z => cu_y_b hn (fun _ _ _ => br_f (by decide) (And.intro (vp_in_nI (by omega) (by omega)) (And.intro rfl R))) (fun w => (cu_nb hn w hc rfl).elim)))
  have e : c = 0 := by
    rcases Nat.eq_zero_or_pos c with e | e
    · exact e
    · exact absurd z (nI_nle e (by omega))
  rw [nI_clamp (by omega), e, G.2.2.2.2.1.1]
  rfl
theorem i_vc_balance {k : Nat} {u : SX} {v : SY} (I : i_Rel k u v) (hk : k + 5 ≤ 2560) (v1 : Int32) : wpX_balance (fun r => wpY_balance (fun r' => r' = r ∧ i_Rel (k + 5) u v) v v1) u v1 := by
  refine cu_el (P := fun u v => wpX_balance (fun r => wpY_balance (fun r' => r' = r ∧ i_Rel (k + 5) u v) v v1) u v1) ?_ I
  intro n t led fu p lv own am s1 s2 wl wy tk G ht L
  have hn := G.1.2
  have R := cu_mk (fu := fu) (wy := wy) (tk := tk) G ht L (k + 5)
  have Y : ∀ r : Int64, lN (cu_sn (cu_w (bt led) own am v1) 20) = r → wpY_balance (fun r' => r' = r ∧ i_Rel (k + 5) (cu_X n t led t fu p lv own am s1 s2 wl wy) (cu_Y n t fu p own am s1 s2 tk)) (cu_Y n t fu p own am s1 s2 tk) v1 := by
    intro r er
    refine ⟨n + 1, ?_⟩
    have i := cu_y_b5 (fu := fu) (tk := tk) (x := v1) (post := fun r' => r' = r ∧ i_Rel (k + 5) (cu_X n t led t fu p lv own am s1 s2 wl wy) (cu_Y n t fu p own am s1 s2 tk)) G ht L (And.intro ?_ R) (n + 1) 1 (Nat.le_refl 1) G.1.1 (by omega)
    · rw [show cu_sn (cu_w (bt led) own am v1) 1 = 0 from by show 0 + cu_w (bt led) own am v1 0 = 0; rw [cu_w_f (cu_b0 L)]] at i
      exact i
    · rw [← er, cu_sn_z (n := n) 20 hn]
      intro j h1 h2
      refine cu_w_f ?_
      cases e : bt led j with
      | false => rfl
      | true =>
        have := cu_F_le G.2.1 ((L.1 j h2).mp e)
        omega
  have Z : (∀ o, o < 4 → v1 ≠ nI o) → lN (cu_sn (cu_w (bt led) own am v1) 20) = 0 := by
    intro h
    rw [cu_sn_c (g := fun _ => 0) 20 (fun j _ => cu_w_n (fun e => by
      obtain ⟨o, ho, eo⟩ := G.2.2.2.1 j
      exact h o ho (e.symm.trans eo)))]
    rfl
  by_cases z2 : v1 < 0
  · exact br_t z2 (Y 0 (Z (fun o ho e => by rw [e] at z2; exact nI_pos (by omega) z2)))
  · by_cases z3 : v1 ≤ 3
    · obtain ⟨o, ho, rfl⟩ := nI_of2 (M := 3) (n := 3) (by decide) z2 z3
      refine br_f z2 (br_t z3 (And.intro (vp_in_nI (by omega) (by omega)) (Y _ ?_)))
      rw [nI_clamp (by omega)]
      exact (L.2 o (by omega)).symm
    · exact br_f z2 (br_f z3 (Y 0 (Z (fun o ho e => by rw [e] at z3; exact z3 (nI_le (b := 3) (by omega) (by omega))))))
theorem i_vc_coins {k : Nat} {u : SX} {v : SY} (I : i_Rel k u v) (hk : k + 5 ≤ 2560) : wpX_coins (fun r => wpY_coins (fun r' => r' = r ∧ i_Rel (k + 5) u v) v) u := by
  refine cu_el (P := fun u v => wpX_coins (fun r => wpY_coins (fun r' => r' = r ∧ i_Rel (k + 5) u v) v) u) ?_ I
  intro n t led fu p lv own am s1 s2 wl wy tk G ht L
  have hn := G.1.2
  have R := cu_mk (fu := fu) (wy := wy) (tk := tk) G ht L (k + 5)
  have e1 : cu_cn (bt led) 1 = 0 := cu_cn_f (j := 0) (cu_b0 L)
  have Y : wpY_coins (fun r' => r' = nI (cu_cn (bt led) n) ∧ i_Rel (k + 5) (cu_X n t led t fu p lv own am s1 s2 wl wy) (cu_Y n t fu p own am s1 s2 tk)) (cu_Y n t fu p own am s1 s2 tk) := by
    refine ⟨n + 1, ?_⟩
    have i := cu_y_c4 (fu := fu) (tk := tk) (post := fun r' => r' = nI (cu_cn (bt led) n) ∧ i_Rel (k + 5) (cu_X n t led t fu p lv own am s1 s2 wl wy) (cu_Y n t fu p own am s1 s2 tk)) G ht L (And.intro rfl R) (n + 1) 1 (Nat.le_refl 1) G.1.1 (by omega)
    rw [e1] at i
    exact i
  refine ⟨n + 1, ?_⟩
  have i := cu_x_c4 (q := t) (t := t) (fu := fu) (p := p) (lv := lv) (own := own) (am := am) (s1 := s1) (s2 := s2) (wl := wl) (wy := wy) (led := led) (post := fun r => wpY_coins (fun r' => r' = r ∧ i_Rel (k + 5) (cu_X n t led t fu p lv own am s1 s2 wl wy) (cu_Y n t fu p own am s1 s2 tk)) (cu_Y n t fu p own am s1 s2 tk)) hn Y (n + 1) 1 (Nat.le_refl 1) G.1.1 (by omega)
  rw [e1] at i
  exact i
theorem i_vc_meeting {k : Nat} {u : SX} {v : SY} (I : i_Rel k u v) (hk : k + 5 ≤ 2560) (v1 : Int32) (v2 : Int32) : wpX_meeting (fun r => wpY_meeting (fun r' => r' = r ∧ i_Rel (k + 5) u v) v v1 v2) u v1 v2 := by
  refine cu_el (P := fun u v => wpX_meeting (fun r => wpY_meeting (fun r' => r' = r ∧ i_Rel (k + 5) u v) v v1 v2) u v1 v2) ?_ I
  intro n t led fu p lv own am s1 s2 wl wy tk G ht L
  have hn := G.1.2
  have R := cu_mk (fu := fu) (wy := wy) (tk := tk) G ht L (k + 5)
  show wpX_meeting _ _ _ _
  unfold wpX_meeting wpY_meeting
  dsimp only
  refine cu_x_b hn (fun a ha ea => br_f (by decide) ?_) (fun z => br_t rfl (cu_y_b hn (fun c hc e => (cu_nb hn z hc e).elim) (fun _ => br_t rfl (And.intro rfl R))))
  refine cu_x_b hn (fun b hb eb => br_f (by decide) ?_) (fun z => br_t rfl (cu_y_b hn (fun _ _ _ => br_f (by decide) (cu_y_b hn (fun c hc e => (cu_nb hn z hc e).elim) (fun _ => br_t rfl (And.intro rfl R)))) (fun w => (cu_nb hn w ha ea).elim)))
  subst ea eb
  obtain ⟨m, hM⟩ := cu_M_ex G.2.1 (a + b) a b rfl
  exact cu_x_p hn G.2.1 G.2.2.1 ha hb hM (cu_y_b hn (fun _ _ _ => br_f (by decide) (cu_y_b hn (fun _ _ _ => br_f (by decide) (cu_y_m ha hb hn G.2.1 G.2.2.1 hM (And.intro rfl R))) (fun w => (cu_nb hn w hb rfl).elim))) (fun w => (cu_nb hn w ha rfl).elim))
theorem i_vc_undone {k : Nat} {u : SX} {v : SY} (I : i_Rel k u v) (hk : k + 5 ≤ 2560) : wpX_undone (fun r => wpY_undone (fun r' => r' = r ∧ i_Rel (k + 5) u v) v) u := by
  refine cu_el (P := fun u v => wpX_undone (fun r => wpY_undone (fun r' => r' = r ∧ i_Rel (k + 5) u v) v) u) ?_ I
  intro n t led fu p lv own am s1 s2 wl wy tk G ht L
  exact And.intro rfl (cu_mk G ht L _)
end
section
/-! what is owed, the last -/
theorem i_vc_fewestFor {k : Nat} {u : SX} {v : SY} (I : i_Rel k u v) (hk : k + 5 ≤ 2560) (v1 : Int32) (v2 : Int32) : wpX_fewestFor (fun r => wpY_fewestFor (fun r' v' => r' = r ∧ i_Rel (k + 5) u v') v v1 v2) u v1 v2 := by
  refine cu_el (P := fun u v => wpX_fewestFor (fun r => wpY_fewestFor (fun r' v' => r' = r ∧ i_Rel (k + 5) u v') v v1 v2) u v1 v2) ?_ I
  intro n t led fu p lv own am s1 s2 wl wy tk G ht L
  have hn := G.1.2
  have R : ∀ tz, i_Rel (k + 5) (cu_X n t led t fu p lv own am s1 s2 wl wy) (cu_Y n t fu p own am s1 s2 tz) := fun tz => cu_mk G ht L (k + 5)
  have e0 : ∀ x : Int64, x - lN (cu_tt am 0) = x := fun x => by rw [cu_tt_0]; exact Int64.sub_zero x
  by_cases z2 : v1 < 0
  · exact br_t z2 (br_t z2 (And.intro rfl (R _)))
  · by_cases z3 : v1 ≤ 3
    · obtain ⟨o, ho, rfl⟩ := nI_of2 (M := 3) (n := 3) (by decide) z2 z3
      have hB := cu_w_b (x := nI o) G ht L
      have ew : wl (nI o).toNatClampNeg = lN (cu_sn (cu_w (bt led) own am (nI o)) 20) := by rw [nI_clamp (by omega)]; exact L.2 o (by omega)
      refine br_f z2 (br_t z3 (And.intro (vp_in_nI (by omega) (by omega)) ?_))
      rw [ew]
      refine br_c (fun h => ?_) (fun h => ?_)
      · rw [cu_le64 hB] at h
        obtain ⟨r, hX, hY⟩ := cu_few (q := t) (lv := lv) (wy := wy) (fu := fu) G ht L h 20 0 0 rfl cu_cn_0 cu_U_0
        refine ⟨21, ?_⟩
        have i := hX (fun r => wpY_fewestFor (fun r' v' => r' = r ∧ i_Rel (k + 5) (cu_X n t led t fu p lv own am s1 s2 wl wy) v') (cu_Y n t fu p own am s1 s2 tk) (nI o) v2) 21 (by omega) ?_
        · rw [cu_tt_0] at i
          exact i
        · refine br_f z2 (br_t z3 ⟨21, cu_y_13 (fun tz htz => ⟨21, ?_⟩) 21 0 tk (by omega) (by omega) (fun c hc => absurd hc (Nat.not_lt_zero c))⟩)
          have j := hY tz (fun r' v' => r' = r ∧ i_Rel (k + 5) (cu_X n t led t fu p lv own am s1 s2 wl wy) v') 21 (cu_K_0 htz) (by omega) (fun tz => And.intro rfl (R tz))
          rw [e0] at j
          exact j
      · rw [cu_le64 hB] at h
        refine br_f z2 (br_t z3 ⟨21, cu_y_13 (fun tz htz => ⟨21, ?_⟩) 21 0 tk (by omega) (by omega) (fun c hc => absurd hc (Nat.not_lt_zero c))⟩)
        have i := cu_poor (o := o) (x := v2) (fu := fu) (post := fun r' v' => r' = -4 ∧ i_Rel (k + 5) (cu_X n t led t fu p lv own am s1 s2 wl wy) v') G ht L (Int.not_le.mp h) (fun tz => And.intro rfl (R tz)) 21 0 0 tz (by omega) (by omega) cu_U_0 (cu_K_0 htz)
        rw [e0] at i
        exact i
    · exact br_f z2 (br_f z3 (br_f z2 (br_f z3 (And.intro rfl (R _)))))
theorem cu_G_f {n : Nat} {p lv : Nat → Nat} {own : Nat → Int32} {am : Nat → Nat} {s1 s2 : Nat → Int32} (G : cu_G (n + 1) p lv own am s1 s2) (hn : 1 ≤ n) : cu_G n p lv own am s1 s2 := by
  obtain ⟨⟨hn1, hn2⟩, hp, hV, hO, hA, hB, hQ⟩ := G
  exact ⟨⟨hn, by omega⟩, hp, ⟨hV.1, fun b h1 h2 => hV.2 b h1 (by omega)⟩, hO, hA, fun b h1 h2 => hB b h1 (by omega), ⟨hQ.1, fun b h1 h2 => hQ.2 b h1 (by omega)⟩⟩
theorem cu_le0 (x : Int32) : x ≤ 0 ↔ x < 1 := by
  rw [Int32.le_iff_toInt_le, Int32.lt_iff_toInt_lt, show (0 : Int32).toInt = 0 from by decide, show (1 : Int32).toInt = 1 from by decide]
  omega
theorem i_vc_forget {k : Nat} {u : SX} {v : SY} (I : i_Rel k u v) (hk : k + 5 ≤ 2560) (v1 : Int32) : wpX_forget (fun r u' => wpY_forget (fun r' v' => r' = r ∧ i_Rel (k + 5) u' v') v v1) u v1 := by
  refine cu_el (P := fun u v => wpX_forget (fun r u' => wpY_forget (fun r' v' => r' = r ∧ i_Rel (k + 5) u' v') v v1) u v1) ?_ I
  intro n t led fu p lv own am s1 s2 wl wy tk G ht L
  have hn := G.1.2
  have hn1 := G.1.1
  have R := cu_mk (fu := fu) (wy := wy) (tk := tk) G ht L (k + 5)
  by_cases z1 : v1 ≤ 0
  · exact br_t z1 (br_t ((cu_le0 v1).mp z1) (And.intro rfl R))
  · have z2 : ¬ v1 < 1 := fun w => z1 ((cu_le0 v1).mpr w)
    by_cases z3 : v1 = nI n - 1
    · by_cases z4 : v1 = nI t
      · exact br_f z1 (br_t z3 (br_t z4 (br_f z2 (br_t z3 (br_t z4 (And.intro rfl R))))))
      · obtain ⟨m, rfl⟩ : ∃ m, n = m + 1 := ⟨n - 1, by omega⟩
        have z5 : v1 = nI m := by rw [z3, nI_pred]
        have z6 : t ≠ m := fun e => z4 (by rw [z5, e])
        refine br_f z1 (br_t z3 (br_f z4 (nm_r (nI_pred m) (br_f z2 (br_t z3 (br_f z4 (nm_r (nI_pred m) ?_)))))))
        exact And.intro rfl (cu_mk (cu_G_f G (by omega)) (by omega) L _)
    · exact br_f z1 (br_f z3 (br_f z2 (br_f z3 (And.intro rfl R))))
end
