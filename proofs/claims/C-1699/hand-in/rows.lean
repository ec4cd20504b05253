section
theorem pk_us {f : Nat → Int32} {k : Nat} {x : Int32} : upd f k x k = x := if_pos rfl
theorem pk_un {f : Nat → Int32} {k j : Nat} {x : Int32} (h : j ≠ k) : upd f k x j = f j := if_neg h
theorem pk_sub {a b : Nat} (h : b ≤ a) : nI a - nI b = nI (a - b) := by
  obtain ⟨c, rfl⟩ : ∃ c, a = c + b := ⟨a - b, by omega⟩
  rw [← nI_add, Int32.add_sub_cancel, Nat.add_sub_cancel]
theorem pk_m1 (n : Nat) : nI (n + 1) + (-1) = nI n := by
  rw [← nI_1, Int32.add_assoc, show (1 : Int32) + (-1) = 0 from rfl, Int32.add_zero]
theorem pk_mul (a b : Nat) : nI a * nI b = nI (a * b) := (Int32.ofNat_mul a b).symm
theorem pk_div {a d : Nat} (ha : a < 2 ^ 31) (h0 : 0 < d) (hd : d < 2 ^ 31) : nI a / nI d = nI (a / d) := by
  apply Int32.toInt_inj.mp
  rw [lg_idiv_nonneg (by rw [nI_toInt ha]; omega) (by rw [nI_toInt hd]; omega), nI_toInt ha, nI_toInt hd, nI_toInt (Nat.lt_of_le_of_lt (Nat.div_le_self a d) ha)]
  first | rfl | exact (Int.natCast_ediv _ _).symm
theorem pk_rem {a d : Nat} (ha : a < 2 ^ 31) (h0 : 0 < d) (hd : d < 2 ^ 31) : nI a - nI a / nI d * nI d = nI (a % d) := by
  rw [pk_div ha h0 hd, pk_mul, pk_sub (Nat.div_mul_le_self a d)]
  exact congrArg nI (by have := Nat.div_add_mod' a d; omega)
theorem pk_sub_toInt {a b : Nat} (ha : a < 2 ^ 30) (hb : b < 2 ^ 30) : (nI a - nI b).toInt = (a : Int) - b := by
  rw [Int32.toInt_sub, nI_toInt (by omega), nI_toInt (by omega)]
  exact Int.bmod_eq_of_le (by omega) (by omega)
theorem pk_sneg {a b : Nat} (hb : b < 2 ^ 30) (h : a < b) : nI a - nI b < 0 := by
  rw [Int32.lt_iff_toInt_lt, pk_sub_toInt (by omega) hb, show (0 : Int32).toInt = 0 from by decide]
  omega
theorem pk_ix (x : Int32) {n : Nat} (hn : n < 2 ^ 31) : x < 0 ∨ nI n ≤ x ∨ ∃ j : Nat, j < n ∧ x = nI j := by
  by_cases h : x < 0
  · exact Or.inl h
  · obtain ⟨j, hj, rfl⟩ := nI_of h
    by_cases h2 : j < n
    · exact Or.inr (Or.inr ⟨j, h2, rfl⟩)
    · exact Or.inr (Or.inl (nI_le (by omega) hj))
theorem pk_le {x y : Int32} {A B : Prop} (a b : Nat) (f : a ≤ b → A) (g : b < a → B) (hx : x = nI a := by rfl) (hy : y = nI b := by rfl) (ha : a < 2 ^ 31 := by omega) (hb : b < 2 ^ 31 := by omega) : (x ≤ y → A) ∧ (¬ x ≤ y → B) := by
  subst hx hy
  rw [nI_leI ha hb]
  exact ⟨f, fun z => g (by omega)⟩
theorem pk_lt {x y : Int32} {A B : Prop} (a b : Nat) (f : a < b → A) (g : b ≤ a → B) (hx : x = nI a := by rfl) (hy : y = nI b := by rfl) (ha : a < 2 ^ 31 := by omega) (hb : b < 2 ^ 31 := by omega) : (x < y → A) ∧ (¬ x < y → B) := by
  subst hx hy
  rw [nI_ltI ha hb]
  exact ⟨f, fun z => g (by omega)⟩
theorem pk_eq {x y : Int32} {A B : Prop} (a b : Nat) (f : a = b → A) (g : a ≠ b → B) (hx : x = nI a := by rfl) (hy : y = nI b := by rfl) (ha : a < 2 ^ 31 := by omega) (hb : b < 2 ^ 31 := by omega) : (x = y → A) ∧ (¬ x = y → B) := by
  subst hx hy
  rw [nI_eq ha hb]
  exact ⟨f, g⟩
theorem pk_in {x : Int32} (n N : Nat) (h : n < N) (hx : x = nI n := by rfl) (hN : N < 2 ^ 31 := by omega) : vp_in x N := by
  subst hx
  exact vp_in_nI h hN
theorem pk_cl {x : Int32} (n : Nat) (hx : x = nI n := by rfl) (h : n < 2 ^ 31 := by omega) : x.toNatClampNeg = n := by
  subst hx
  exact nI_clamp h
theorem pk_tn {n : Nat} (h : n < 2 ^ 32) : (nI n).toBitVec.toNat = n := Nat.mod_eq_of_lt h
theorem pk_and (x : Int32) {m : Int32} (k : Nat) (hm : m.toBitVec.toNat = 2 ^ k - 1) : x &&& m = nI (x.toBitVec.toNat % 2 ^ k) := by
  apply Int32.toBitVec_inj.mp
  apply BitVec.eq_of_toNat_eq
  rw [Int32.toBitVec_and, BitVec.toNat_and, hm, Nat.and_two_pow_sub_one_eq_mod]
  show _ = (BitVec.ofNat 32 _).toNat
  rw [BitVec.toNat_ofNat]
  exact (Nat.mod_eq_of_lt (Nat.lt_of_le_of_lt (Nat.mod_le _ _) x.toBitVec.isLt)).symm
theorem pk_andN {n : Nat} (h : n < 2 ^ 32) {m : Int32} (k : Nat) (hm : m.toBitVec.toNat = 2 ^ k - 1) : nI n &&& m = nI (n % 2 ^ k) := by
  rw [pk_and _ k hm, pk_tn h]
theorem pk_andE (x : Int32) {m : Int32} (k : Nat) (hm : m.toBitVec.toNat = 2 ^ k - 1) : ∃ j : Nat, j < 2 ^ k ∧ x &&& m = nI j := ⟨_, Nat.mod_lt _ (Nat.two_pow_pos k), pk_and x k hm⟩
theorem pk_andIn (x : Int32) {m : Int32} (k : Nat) (hm : m.toBitVec.toNat = 2 ^ k - 1) (hk : k ≤ 30) : vp_in (x &&& m) (2 ^ k) := by
  obtain ⟨j, hj, e⟩ := pk_andE x k hm
  rw [e]
  exact vp_in_nI hj (Nat.lt_of_le_of_lt (Nat.pow_le_pow_right (by decide) hk) (by decide))
theorem pk_least (P : Nat → Prop) (h : ∃ k, P k) : ∃ k, P k ∧ ∀ j, j < k → ¬ P j := by
  obtain ⟨k, hk⟩ := h
  induction k using Nat.strongRecOn with
  | ind k ih =>
    by_cases e : ∃ j, j < k ∧ P j
    · obtain ⟨j, hj, pj⟩ := e
      exact ih j hj pj
    · exact ⟨k, hk, fun j hj pj => e ⟨j, hj, pj⟩⟩
end
section
/-! a program: lines, kinds, variables, numbers, both others, start values -/
abbrev CF : Type := Nat × (Nat → Int32) × (Nat → Int32) × (Nat → Int32) × (Nat → Int32) × (Nat → Int32) × (Nat → Int32)
def cf_n (c : CF) : Nat := c.1
def cf_kd (c : CF) (i : Nat) : Nat := (c.2.1 i).toNatClampNeg
def cf_va (c : CF) (i : Nat) : Nat := (c.2.2.1 i).toNatClampNeg
def cf_lb (c : CF) (i : Nat) : Int32 := c.2.2.2.1 i
def cf_vc (c : CF) (i : Nat) : Nat := (c.2.2.2.2.1 i).toNatClampNeg
def cf_vd (c : CF) (i : Nat) : Nat := (c.2.2.2.2.2.1 i).toNatClampNeg
def cf_s0 (c : CF) : Nat → Int32 := c.2.2.2.2.2.2
/-- the pending lines before line i, the innermost first -/
def cf_st (c : CF) : Nat → List Nat
  | 0 => []
  | i + 1 => if cf_kd c i = 2 ∨ cf_kd c i = 4 then i :: cf_st c i else if cf_kd c i = 5 then (cf_st c i).tail else cf_st c i
def cf_op (c : CF) (i : Nat) : Nat := (cf_st c i).headD 0
def cf_oth (c : CF) : Nat → Nat → Option Nat
  | 0, _ => none
  | i + 1, j => if cf_kd c i = 3 ∧ (cf_st c i).head? = some j then some i else cf_oth c i j
def cf_clo (c : CF) : Nat → Nat → Option Nat
  | 0, _ => none
  | i + 1, j => if cf_kd c i = 5 ∧ (cf_st c i).head? = some j then some i else cf_clo c i j
def cf_cl (c : CF) (j : Nat) : Nat := (cf_clo c (cf_n c) j).getD 0
def cf_ot (c : CF) (j : Nat) : Option Nat := cf_oth c (cf_n c) j
def cf_wd (c : CF) (i : Nat) : Nat := if cf_kd c i ≤ 1 then 1 else if cf_kd c i = 3 then 0 else if cf_kd c i = 4 then 10 else 5
def cf_nb (c : CF) : Nat → Nat
  | 0 => 10
  | i + 1 => cf_nb c i + cf_wd c i
def cf_lok (c : CF) (i : Nat) : Prop :=
  c.2.1 i = nI (cf_kd c i) ∧ cf_kd c i ≤ 5 ∧
  (cf_kd c i ≠ 3 → cf_kd c i ≠ 5 → c.2.2.1 i = nI (cf_va c i) ∧ cf_va c i < 4) ∧
  (cf_kd c i = 1 → (c.2.2.2.2.1 i = nI (cf_vc c i) ∧ cf_vc c i < 4) ∧ (c.2.2.2.2.2.1 i = nI (cf_vd c i) ∧ cf_vd c i < 4) ∧ 0 ≤ cf_lb c i ∧ cf_lb c i ≤ 4) ∧
  (cf_kd c i = 3 → ∃ j r, cf_st c i = j :: r ∧ cf_kd c j = 2 ∧ cf_oth c i j = none) ∧
  (cf_kd c i = 5 → cf_st c i ≠ []) ∧
  (cf_kd c i = 2 ∨ cf_kd c i = 4 → (cf_st c i).length < 4)
def cf_wf (c : CF) : Prop := cf_n c ≤ 20 ∧ ∀ i, i < cf_n c → cf_lok c i
def cf_ok (c : CF) : Prop := cf_wf c ∧ cf_st c (cf_n c) = []
section
variable {c : CF}
theorem cf_st_c {i : Nat} (h : cf_kd c i = 2 ∨ cf_kd c i = 4) : cf_st c (i + 1) = i :: cf_st c i := if_pos h
theorem cf_st_5 {i : Nat} (h : cf_kd c i = 5) : cf_st c (i + 1) = (cf_st c i).tail := by
  rw [cf_st, if_neg (by omega), if_pos h]
theorem cf_st_s {i : Nat} (h2 : cf_kd c i ≠ 2) (h4 : cf_kd c i ≠ 4) (h5 : cf_kd c i ≠ 5) : cf_st c (i + 1) = cf_st c i := by
  rw [cf_st, if_neg (by omega), if_neg h5]
theorem cf_st_cs (c : CF) (i : Nat) : ((cf_kd c i = 2 ∨ cf_kd c i = 4) ∧ cf_st c (i + 1) = i :: cf_st c i) ∨ (cf_kd c i = 5 ∧ cf_st c (i + 1) = (cf_st c i).tail) ∨ (cf_kd c i ≠ 2 ∧ cf_kd c i ≠ 4 ∧ cf_kd c i ≠ 5 ∧ cf_st c (i + 1) = cf_st c i) := by
  by_cases h : cf_kd c i = 2 ∨ cf_kd c i = 4
  · exact Or.inl ⟨h, cf_st_c h⟩
  · by_cases h5 : cf_kd c i = 5
    · exact Or.inr (Or.inl ⟨h5, cf_st_5 h5⟩)
    · exact Or.inr (Or.inr ⟨by omega, by omega, h5, cf_st_s (by omega) (by omega) h5⟩)
theorem cf_st_h : ∀ N i, i < N → ∀ h r, cf_st c i = h :: r → r = cf_st c h ∧ h < i ∧ (cf_kd c h = 2 ∨ cf_kd c h = 4) := by
  intro N
  induction N with
  | zero => intro i hi; omega
  | succ N ih =>
    intro i hi h r e
    cases i with
    | zero => cases e
    | succ i =>
      rcases cf_st_cs c i with ⟨hk, e1⟩ | ⟨hk, e1⟩ | ⟨_, _, _, e1⟩
      · rw [e1] at e
        cases e
        exact ⟨rfl, by omega, hk⟩
      · rw [e1] at e
        cases e2 : cf_st c i with
        | nil => rw [e2] at e; cases e
        | cons h0 r0 =>
          rw [e2] at e
          obtain ⟨a1, a2, a3⟩ := ih i (by omega) h0 r0 e2
          have e3 : cf_st c h0 = h :: r := by rw [← a1]; exact e
          obtain ⟨b1, b2, b3⟩ := ih h0 (by omega) h r e3
          exact ⟨b1, by omega, b3⟩
      · rw [e1] at e
        obtain ⟨b1, b2, b3⟩ := ih i (by omega) h r e
        exact ⟨b1, by omega, b3⟩
theorem cf_sth {i h : Nat} {r : List Nat} (e : cf_st c i = h :: r) : r = cf_st c h ∧ h < i ∧ (cf_kd c h = 2 ∨ cf_kd c h = 4) := cf_st_h (i + 1) i (by omega) h r e
theorem cf_st_suf : ∀ N i, i < N → ∀ e, e ∈ cf_st c i → e < i ∧ (cf_kd c e = 2 ∨ cf_kd c e = 4) ∧ (e :: cf_st c e) <:+ cf_st c i := by
  intro N
  induction N with
  | zero => intro i hi; omega
  | succ N ih =>
    intro i hi e he
    cases e2 : cf_st c i with
    | nil => rw [e2] at he; cases he
    | cons h r =>
      obtain ⟨a1, a2, a3⟩ := cf_sth e2
      rw [e2] at he
      rcases List.mem_cons.mp he with rfl | h1
      · exact ⟨a2, a3, by rw [a1]; exact List.suffix_refl _⟩
      · rw [a1] at h1
        obtain ⟨b1, b2, b3⟩ := ih h (by omega) e h1
        refine ⟨by omega, b2, ?_⟩
        rw [a1]
        exact List.IsSuffix.trans b3 (List.suffix_cons _ _)
theorem cf_stm {i e : Nat} (h : e ∈ cf_st c i) : e < i ∧ (cf_kd c e = 2 ∨ cf_kd c e = 4) ∧ (e :: cf_st c e) <:+ cf_st c i := cf_st_suf (i + 1) i (by omega) e h
theorem cf_nore0 {m j : Nat} {r : List Nat} (h5 : cf_kd c m = 5) (hs : cf_st c m = j :: r) : ∀ i, m < i → ∀ e, e ∈ cf_st c i → e < j ∨ m < e := by
  intro i
  induction i with
  | zero => intro h; omega
  | succ i ih =>
    intro hi e he
    by_cases hm : m = i
    · subst hm
      rw [cf_st_5 h5, hs] at he
      have h1 : e ∈ r := he
      rw [(cf_sth hs).1] at h1
      exact Or.inl (cf_stm h1).1
    · rcases cf_st_cs c i with ⟨hk, e1⟩ | ⟨hk, e1⟩ | ⟨_, _, _, e1⟩
      · rw [e1] at he
        rcases List.mem_cons.mp he with rfl | h1
        · exact Or.inr (by omega)
        · exact ih (by omega) e h1
      · rw [e1] at he
        exact ih (by omega) e (List.mem_of_mem_tail he)
      · rw [e1] at he
        exact ih (by omega) e he
theorem cf_nore {m j : Nat} {r : List Nat} (h5 : cf_kd c m = 5) (hs : cf_st c m = j :: r) {i : Nat} (hi : m < i) : j ∉ cf_st c i := by
  intro hj
  have h1 := cf_nore0 h5 hs i hi j hj
  have h2 := (cf_sth hs).2.1
  omega
theorem cf_gone {j i : Nat} (hj : j < i) (hn : j ∉ cf_st c i) : ∀ d, j ∉ cf_st c (i + d) := by
  intro d
  induction d with
  | zero => exact hn
  | succ d ih =>
    intro h
    rcases cf_st_cs c (i + d) with ⟨hk, e1⟩ | ⟨hk, e1⟩ | ⟨_, _, _, e1⟩
    · rw [show i + (d + 1) = i + d + 1 from rfl, e1] at h
      rcases List.mem_cons.mp h with h1 | h1
      · omega
      · exact ih h1
    · rw [show i + (d + 1) = i + d + 1 from rfl, e1] at h
      exact ih (List.mem_of_mem_tail h)
    · rw [show i + (d + 1) = i + d + 1 from rfl, e1] at h
      exact ih h
theorem cf_stay {j i i' : Nat} (hj : j < i) (hi : i ≤ i') (h : j ∈ cf_st c i') : j ∈ cf_st c i := by
  by_cases g : j ∈ cf_st c i
  · exact g
  · exfalso
    have := cf_gone hj g (i' - i)
    rw [show i + (i' - i) = i' from by omega] at this
    exact this h
theorem cf_clo_s : ∀ i j m, cf_clo c i j = some m → m < i ∧ cf_kd c m = 5 ∧ (cf_st c m).head? = some j := by
  intro i
  induction i with
  | zero => intro j m h; cases h
  | succ i ih =>
    intro j m h
    by_cases g : cf_kd c i = 5 ∧ (cf_st c i).head? = some j
    · rw [cf_clo, if_pos g] at h
      cases h
      exact ⟨by omega, g.1, g.2⟩
    · rw [cf_clo, if_neg g] at h
      obtain ⟨a, b⟩ := ih j m h
      exact ⟨by omega, b⟩
theorem cf_oth_s : ∀ i j m, cf_oth c i j = some m → m < i ∧ cf_kd c m = 3 ∧ (cf_st c m).head? = some j := by
  intro i
  induction i with
  | zero => intro j m h; cases h
  | succ i ih =>
    intro j m h
    by_cases g : cf_kd c i = 3 ∧ (cf_st c i).head? = some j
    · rw [cf_oth, if_pos g] at h
      cases h
      exact ⟨by omega, g.1, g.2⟩
    · rw [cf_oth, if_neg g] at h
      obtain ⟨a, b⟩ := ih j m h
      exact ⟨by omega, b⟩
theorem cf_head {i j : Nat} (h : (cf_st c i).head? = some j) : cf_st c i = j :: cf_st c j ∧ j < i ∧ (cf_kd c j = 2 ∨ cf_kd c j = 4) ∧ cf_op c i = j := by
  cases e : cf_st c i with
  | nil => rw [e] at h; cases h
  | cons a r =>
    rw [e] at h
    cases h
    obtain ⟨a1, a2, a3⟩ := cf_sth e
    exact ⟨by rw [a1], a2, a3, by rw [cf_op, e]; rfl⟩
theorem cf_clo_e {m j : Nat} (h5 : cf_kd c m = 5) (hh : (cf_st c m).head? = some j) : ∀ i, m < i → cf_clo c i j = some m := by
  intro i
  induction i with
  | zero => intro h; omega
  | succ i ih =>
    intro hi
    by_cases hm : m = i
    · subst hm
      rw [cf_clo, if_pos ⟨h5, hh⟩]
    · rw [cf_clo, if_neg, ih (by omega)]
      rintro ⟨_, g⟩
      have h1 := (cf_head g).1
      have h2 := cf_nore h5 (cf_head hh).1 (i := i) (by omega)
      rw [h1] at h2
      exact h2 (List.mem_cons_self ..)
theorem cf_oth_e (w : cf_wf c) {m j : Nat} (h3 : cf_kd c m = 3) (hh : (cf_st c m).head? = some j) : ∀ i, m < i → i ≤ cf_n c → cf_oth c i j = some m := by
  intro i
  induction i with
  | zero => intro h; omega
  | succ i ih =>
    intro hi hn
    by_cases hm : m = i
    · subst hm
      rw [cf_oth, if_pos ⟨h3, hh⟩]
    · rw [cf_oth, if_neg, ih (by omega) (by omega)]
      rintro ⟨g3, g⟩
      obtain ⟨j', r, e, _, e2⟩ := (w.2 i (by omega)).2.2.2.2.1 g3
      rw [e] at g
      cases g
      rw [ih (by omega) (by omega)] at e2
      cases e2
theorem cf_oth_n {j : Nat} : ∀ d i, cf_oth c (i + d) j = none → cf_oth c i j = none := by
  intro d
  induction d with
  | zero => intro i h; exact h
  | succ d ih =>
    intro i h
    apply ih
    rw [show i + (d + 1) = i + d + 1 from rfl, cf_oth] at h
    by_cases g : cf_kd c (i + d) = 3 ∧ (cf_st c (i + d)).head? = some j
    · rw [if_pos g] at h; cases h
    · rw [if_neg g] at h; exact h
theorem cf_clo_x {j : Nat} (hk : cf_kd c j = 2 ∨ cf_kd c j = 4) : ∀ d, j ∈ cf_st c (j + 1 + d) ∨ ∃ m, cf_clo c (j + 1 + d) j = some m := by
  intro d
  induction d with
  | zero => rw [cf_st_c hk]; exact Or.inl (List.mem_cons_self ..)
  | succ d ih =>
    rw [show j + 1 + (d + 1) = j + 1 + d + 1 from rfl]
    rcases ih with h | ⟨m, h⟩
    · rcases cf_st_cs c (j + 1 + d) with ⟨hk, e1⟩ | ⟨hk, e1⟩ | ⟨_, _, _, e1⟩
      · rw [e1]; exact Or.inl (List.mem_cons_of_mem _ h)
      · by_cases g : (cf_st c (j + 1 + d)).head? = some j
        · exact Or.inr ⟨_, if_pos ⟨hk, g⟩⟩
        · refine Or.inl ?_
          rw [e1]
          cases e : cf_st c (j + 1 + d) with
          | nil => rw [e] at h; cases h
          | cons a r =>
            rw [e] at h g
            rcases List.mem_cons.mp h with rfl | h2
            · exact absurd rfl g
            · exact h2
      · rw [e1]; exact Or.inl h
    · refine Or.inr ?_
      by_cases g : cf_kd c (j + 1 + d) = 5 ∧ (cf_st c (j + 1 + d)).head? = some j
      · exact ⟨_, if_pos g⟩
      · exact ⟨m, by rw [cf_clo, if_neg g]; exact h⟩
/-- the close that belongs to a line -/
theorem cf_cl_o (k : cf_ok c) {j : Nat} (hj : j < cf_n c) (hk : cf_kd c j = 2 ∨ cf_kd c j = 4) :
    j < cf_cl c j ∧ cf_cl c j < cf_n c ∧ cf_kd c (cf_cl c j) = 5 ∧ (cf_st c (cf_cl c j)).head? = some j ∧ cf_st c (cf_cl c j) = j :: cf_st c j ∧ cf_op c (cf_cl c j) = j := by
  rcases cf_clo_x hk (cf_n c - (j + 1)) with h | ⟨m, h⟩
  · rw [show j + 1 + (cf_n c - (j + 1)) = cf_n c from by omega, k.2] at h
    cases h
  · rw [show j + 1 + (cf_n c - (j + 1)) = cf_n c from by omega] at h
    obtain ⟨a, b, d⟩ := cf_clo_s _ _ _ h
    have e : cf_cl c j = m := by rw [cf_cl, h]; rfl
    obtain ⟨h1, h2, _, h4⟩ := cf_head d
    rw [e]
    exact ⟨h2, a, b, d, h1, h4⟩
theorem cf_cl_c (k : cf_ok c) {m : Nat} (hm : m < cf_n c) (h5 : cf_kd c m = 5) :
    cf_op c m < m ∧ cf_cl c (cf_op c m) = m ∧ (cf_kd c (cf_op c m) = 2 ∨ cf_kd c (cf_op c m) = 4) ∧ (cf_st c m).head? = some (cf_op c m) ∧ cf_st c m = cf_op c m :: cf_st c (cf_op c m) := by
  cases e : cf_st c m with
  | nil => exact absurd e ((k.1.2 m hm).2.2.2.2.2.1 h5)
  | cons j r =>
    have hh : (cf_st c m).head? = some j := by rw [e]; rfl
    obtain ⟨h1, h2, h3, h4⟩ := cf_head hh
    rw [h4]
    refine ⟨h2, ?_, h3, rfl, ?_⟩
    · rw [cf_cl, cf_clo_e h5 hh _ hm]; rfl
    · rw [← h1, e]
theorem cf_ot_3 (k : cf_ok c) {m : Nat} (hm : m < cf_n c) (h3 : cf_kd c m = 3) :
    cf_op c m < m ∧ cf_ot c (cf_op c m) = some m ∧ cf_kd c (cf_op c m) = 2 ∧ (cf_st c m).head? = some (cf_op c m) ∧ cf_st c m = cf_op c m :: cf_st c (cf_op c m) ∧ m < cf_cl c (cf_op c m) ∧ cf_oth c m (cf_op c m) = none := by
  obtain ⟨j, r, e, e2, e3⟩ := (k.1.2 m hm).2.2.2.2.1 h3
  have hh : (cf_st c m).head? = some j := by rw [e]; rfl
  obtain ⟨h1, h2, h4, h5⟩ := cf_head hh
  rw [h5]
  refine ⟨h2, cf_oth_e k.1 h3 hh _ hm (Nat.le_refl _), e2, hh, h1, ?_, e3⟩
  obtain ⟨a1, a2, a3, a4, a5, a6⟩ := cf_cl_o k (j := j) (by omega) h4
  by_cases g : cf_cl c j < m
  · exfalso
    have := cf_nore a3 a5 g
    rw [h1] at this
    exact this (List.mem_cons_self ..)
  · have : cf_cl c j ≠ m := by
      intro z
      rw [z] at a3
      omega
    omega
theorem cf_ot_s (k : cf_ok c) {j m : Nat} (h : cf_ot c j = some m) : m < cf_n c ∧ cf_kd c m = 3 ∧ cf_op c m = j := by
  obtain ⟨a, b, d⟩ := cf_oth_s _ _ _ h
  exact ⟨a, b, (cf_head d).2.2.2⟩
theorem cf_oth_cl (k : cf_ok c) {j : Nat} (hj : j < cf_n c) (hk : cf_kd c j = 2 ∨ cf_kd c j = 4) : cf_oth c (cf_cl c j) j = cf_ot c j := by
  obtain ⟨a1, a2, a3, a4, a5, a6⟩ := cf_cl_o k hj hk
  cases e : cf_ot c j with
  | none =>
    apply cf_oth_n (cf_n c - cf_cl c j)
    rw [show cf_cl c j + (cf_n c - cf_cl c j) = cf_n c from by omega]
    exact e
  | some m =>
    obtain ⟨b1, b2, b3⟩ := cf_oth_s _ _ _ e
    have h1 := cf_ot_3 k b1 b2
    rw [(cf_head b3).2.2.2] at h1
    exact cf_oth_e k.1 b2 b3 _ (by omega) (by omega)
theorem cf_wd_le (i : Nat) : cf_wd c i ≤ 10 := by
  unfold cf_wd
  split <;> try omega
  split <;> try omega
  split <;> omega
theorem cf_nb_ge : ∀ i, 10 ≤ cf_nb c i
  | 0 => Nat.le_refl _
  | i + 1 => Nat.le_trans (cf_nb_ge i) (Nat.le_add_right _ _)
theorem cf_nb_le : ∀ i, cf_nb c i ≤ 10 + 10 * i
  | 0 => Nat.le_refl _
  | i + 1 => by
    have h1 := cf_nb_le i
    have h2 := cf_wd_le (c := c) i
    rw [cf_nb]
    omega
theorem cf_nb_mono {i : Nat} : ∀ d, cf_nb c i ≤ cf_nb c (i + d)
  | 0 => Nat.le_refl _
  | d + 1 => Nat.le_trans (cf_nb_mono d) (Nat.le_add_right _ _)
theorem cf_nb_lt {i i' s : Nat} (h : i < i') (hs : s < cf_wd c i) : cf_nb c i + s < cf_nb c i' := by
  have h1 := cf_nb_mono (c := c) (i := i + 1) (i' - (i + 1))
  rw [show i + 1 + (i' - (i + 1)) = i' from by omega, cf_nb] at h1
  omega
theorem cf_dec {i i' s s' : Nat} (hs : s < cf_wd c i) (hs' : s' < cf_wd c i') (e : cf_nb c i + s = cf_nb c i' + s') : i = i' ∧ s = s' := by
  by_cases h : i < i'
  · have := cf_nb_lt h hs
    omega
  · by_cases h' : i' < i
    · have := cf_nb_lt h' hs'
      omega
    · have : i = i' := by omega
      subst this
      exact ⟨rfl, by omega⟩
end
end
section
def cf_La (c : CF) : Nat → Nat → Nat
  | 0, x => 2 * x
  | i + 1, x => if cf_kd c i ≤ 1 then (if x = cf_va c i then 2 * cf_nb c i else cf_La c i x)
      else if cf_kd c i = 3 then 2 * (cf_nb c (cf_op c i) + x) + 1
      else if cf_kd c i = 4 then 2 * (cf_nb c i + (5 + x)) else 2 * (cf_nb c i + x)
def cf_ks (c : CF) (i j x : Nat) : Nat := if cf_kd c j = 4 then 2 * (cf_nb c j + (5 + x)) + 1 else match cf_oth c i j with
  | some m => cf_La c m x
  | none => 2 * (cf_nb c j + x) + 1
def cf_Lb (c : CF) (i x : Nat) : Nat := if cf_kd c i = 4 then 2 * (cf_nb c i + x) else cf_ks c i (cf_op c i) x
def cf_loc (c : CF) (i f x : Nat) : Nat := if f = 0 then cf_La c i x else cf_Lb c i x
/-- what a place does: 0 constant, 1 operation, 2 when, 3 jump, 4 enter, 5 choice of a loop, 6 join, 7 back, 8 leave, 9 end -/
def cf_ek (c : CF) (i f : Nat) : Nat := if cf_n c ≤ i then 9 else if cf_kd c i < 4 then cf_kd c i else if cf_kd c i = 4 then (if f = 0 then 4 else 5) else if cf_kd c (cf_op c i) = 2 then 6 else if f = 0 then 7 else 8
def cf_pos (c : CF) (i f : Nat) : Prop := i ≤ cf_n c ∧ (f = 0 ∨ (f = 1 ∧ i < cf_n c ∧ (cf_kd c i = 4 ∨ cf_kd c i = 5)))
def cf_nd (c : CF) (i f x : Nat) : Nat := match cf_ek c i f with
  | 0 => cf_nb c i
  | 1 => cf_nb c i
  | 5 => cf_nb c i + (5 + x)
  | 7 => cf_nb c (cf_op c i) + x
  | 9 => 5 + x
  | _ => cf_nb c i + x
def cf_in (c : CF) (i f : Nat) : Nat := if cf_ek c i f = 7 then 1 else 0
def cf_fr (c : CF) (i f x : Nat) : Bool := match cf_ek c i f with
  | 0 => x == cf_va c i
  | 1 => x == cf_va c i
  | 3 => false
  | 9 => false
  | _ => decide (x < 5)
def cf_sv (c : CF) (i f x j : Nat) : Nat := match cf_ek c i f with
  | 0 => 4
  | 1 => if j = 0 then cf_vc c i else cf_vd c i
  | 2 => if j = 0 then x else cf_va c i
  | 5 => if j = 0 then x else cf_va c i
  | _ => x
def cf_sl (c : CF) (i f x j : Nat) : Prop := match cf_ek c i f with
  | 0 => x = cf_va c i ∧ j = 0
  | 1 => x = cf_va c i ∧ j < 2
  | 2 => x < 5 ∧ j < 2
  | 5 => x < 5 ∧ j < 2
  | 3 => False
  | 7 => x < 5 ∧ j = 1
  | _ => x < 5 ∧ j = 0
def cf_nx (c : CF) (i f : Nat) (z : Bool) : Nat × Nat := match cf_ek c i f with
  | 0 => (i + 1, 0)
  | 1 => (i + 1, 0)
  | 2 => if z = true then (match cf_ot c i with
      | some m => (m + 1, 0)
      | none => (cf_cl c i, 1)) else (i + 1, 0)
  | 3 => (cf_cl c (cf_op c i), 1)
  | 4 => (i, 1)
  | 5 => if z = true then (cf_cl c i, 1) else (i + 1, 0)
  | 6 => (i + 1, 0)
  | 7 => (cf_op c i, 1)
  | 8 => (i + 1, 0)
  | _ => (i, f)
section
variable {c : CF}
theorem cf_loc_0 (i x : Nat) : cf_loc c i 0 x = cf_La c i x := if_pos rfl
theorem cf_loc_1 (i x : Nat) : cf_loc c i 1 x = cf_Lb c i x := if_neg (by decide)
theorem cf_k6 (w : cf_wf c) {i : Nat} (h : i < cf_n c) : cf_kd c i = 0 ∨ cf_kd c i = 1 ∨ cf_kd c i = 2 ∨ cf_kd c i = 3 ∨ cf_kd c i = 4 ∨ cf_kd c i = 5 := by
  have := (w.2 i h).2.1
  omega
theorem cf_cases (k : cf_ok c) {i f : Nat} (v : cf_pos c i f) :
    (cf_ek c i f = 0 ∧ i < cf_n c ∧ f = 0 ∧ cf_kd c i = 0) ∨ (cf_ek c i f = 1 ∧ i < cf_n c ∧ f = 0 ∧ cf_kd c i = 1) ∨
    (cf_ek c i f = 2 ∧ i < cf_n c ∧ f = 0 ∧ cf_kd c i = 2) ∨ (cf_ek c i f = 3 ∧ i < cf_n c ∧ f = 0 ∧ cf_kd c i = 3) ∨
    (cf_ek c i f = 4 ∧ i < cf_n c ∧ f = 0 ∧ cf_kd c i = 4) ∨ (cf_ek c i f = 5 ∧ i < cf_n c ∧ f = 1 ∧ cf_kd c i = 4) ∨
    (cf_ek c i f = 6 ∧ i < cf_n c ∧ (f = 0 ∨ f = 1) ∧ cf_kd c i = 5 ∧ cf_kd c (cf_op c i) = 2) ∨
    (cf_ek c i f = 7 ∧ i < cf_n c ∧ f = 0 ∧ cf_kd c i = 5 ∧ cf_kd c (cf_op c i) = 4) ∨
    (cf_ek c i f = 8 ∧ i < cf_n c ∧ f = 1 ∧ cf_kd c i = 5 ∧ cf_kd c (cf_op c i) = 4) ∨
    (cf_ek c i f = 9 ∧ i = cf_n c ∧ f = 0) := by
  obtain ⟨h1, h2⟩ := v
  by_cases hn : i < cf_n c
  · have h6 := cf_k6 k.1 hn
    have hn' : ¬ cf_n c ≤ i := by omega
    rcases h6 with g | g | g | g | g | g
    · exact Or.inl ⟨by rw [cf_ek, if_neg hn', if_pos (by omega), g], hn, by omega, g⟩
    · exact Or.inr (Or.inl ⟨by rw [cf_ek, if_neg hn', if_pos (by omega), g], hn, by omega, g⟩)
    · exact Or.inr (Or.inr (Or.inl ⟨by rw [cf_ek, if_neg hn', if_pos (by omega), g], hn, by omega, g⟩))
    · exact Or.inr (Or.inr (Or.inr (Or.inl ⟨by rw [cf_ek, if_neg hn', if_pos (by omega), g], hn, by omega, g⟩)))
    · rcases h2 with hf | ⟨hf, _⟩
      · exact Or.inr (Or.inr (Or.inr (Or.inr (Or.inl ⟨by rw [cf_ek, if_neg hn', if_neg (by omega), if_pos g, if_pos hf], hn, hf, g⟩))))
      · exact Or.inr (Or.inr (Or.inr (Or.inr (Or.inr (Or.inl ⟨by rw [cf_ek, if_neg hn', if_neg (by omega), if_pos g, if_neg (by omega)], hn, hf, g⟩)))))
    · rcases (cf_cl_c k hn g).2.2.1 with h9 | h9
      · exact Or.inr (Or.inr (Or.inr (Or.inr (Or.inr (Or.inr (Or.inl ⟨by rw [cf_ek, if_neg hn', if_neg (by omega), if_neg (by omega), if_pos h9], hn, by omega, g, h9⟩))))))
      · rcases h2 with hf | ⟨hf, _⟩
        · exact Or.inr (Or.inr (Or.inr (Or.inr (Or.inr (Or.inr (Or.inr (Or.inl ⟨by rw [cf_ek, if_neg hn', if_neg (by omega), if_neg (by omega), if_neg (by omega), if_pos hf], hn, hf, g, h9⟩)))))))
        · exact Or.inr (Or.inr (Or.inr (Or.inr (Or.inr (Or.inr (Or.inr (Or.inr (Or.inl ⟨by rw [cf_ek, if_neg hn', if_neg (by omega), if_neg (by omega), if_neg (by omega), if_neg (by omega)], hn, hf, g, h9⟩))))))))
  · exact Or.inr (Or.inr (Or.inr (Or.inr (Or.inr (Or.inr (Or.inr (Or.inr (Or.inr ⟨by rw [cf_ek, if_pos (by omega)], by omega, by omega⟩))))))))
/-! where an output is born -/
def cf_bf (c : CF) (l s b : Nat) : Nat × Nat × Nat :=
  if cf_kd c l ≤ 1 then (l + 1, 0, cf_va c l)
  else if cf_kd c l = 2 then (if b = 0 then (l + 1, 0, s) else match cf_ot c l with
    | some m => (m + 1, 0, s)
    | none => (cf_cl c l, 1, s))
  else if cf_kd c l = 4 then (if s < 5 then (l, 1, s) else if b = 0 then (l + 1, 0, s - 5) else (cf_cl c l, 1, s - 5))
  else (l + 1, 0, s)
def cf_bi (c : CF) (o i f x : Nat) : Prop := (o = 2 * x ∧ x < 5 ∧ i = 0 ∧ f = 0) ∨ ∃ l s b, s < cf_wd c l ∧ b < 2 ∧ o = 2 * (cf_nb c l + s) + b ∧ cf_bf c l s b = (i, f, x)
theorem cf_bi_u {o i f x i' f' x' : Nat} (h : cf_bi c o i f x) (h' : cf_bi c o i' f' x') : i = i' ∧ f = f' ∧ x = x' := by
  rcases h with ⟨a1, a2, a3, a4⟩ | ⟨l, s, b, hs, hb, e1, e2⟩ <;> rcases h' with ⟨b1, b2, b3, b4⟩ | ⟨l', s', b', hs', hb', e1', e2'⟩
  · omega
  · have := cf_nb_ge (c := c) l'
    omega
  · have := cf_nb_ge (c := c) l
    omega
  · have hb2 : b = b' := by omega
    obtain ⟨rfl, rfl⟩ := cf_dec hs hs' (by omega)
    subst hb2
    rw [e2] at e2'
    cases e2'
    exact ⟨rfl, rfl, rfl⟩
theorem cf_wd1 {i : Nat} (h : cf_kd c i ≤ 1) : cf_wd c i = 1 := if_pos h
theorem cf_wd10 {i : Nat} (h : cf_kd c i = 4) : cf_wd c i = 10 := by rw [cf_wd, if_neg (by omega), if_neg (by omega), if_pos h]
theorem cf_wd5 {i : Nat} (h : cf_kd c i = 2 ∨ cf_kd c i = 5) : cf_wd c i = 5 := by rw [cf_wd, if_neg (by omega), if_neg (by omega), if_neg (by omega)]
theorem cf_wd0 {i : Nat} (h : cf_kd c i = 3) : cf_wd c i = 0 := by rw [cf_wd, if_neg (by omega), if_pos h]
theorem cf_bf_1 {l s b : Nat} (h : cf_kd c l ≤ 1) : cf_bf c l s b = (l + 1, 0, cf_va c l) := if_pos h
theorem cf_bf_2 {l s : Nat} (h : cf_kd c l = 2) : cf_bf c l s 0 = (l + 1, 0, s) := by rw [cf_bf, if_neg (by omega), if_pos h, if_pos rfl]
theorem cf_bf_2s {l s m : Nat} (h : cf_kd c l = 2) (ho : cf_ot c l = some m) : cf_bf c l s 1 = (m + 1, 0, s) := by
  rw [cf_bf, if_neg (by omega), if_pos h, if_neg (by decide), ho]
theorem cf_bf_2n {l s : Nat} (h : cf_kd c l = 2) (ho : cf_ot c l = none) : cf_bf c l s 1 = (cf_cl c l, 1, s) := by
  rw [cf_bf, if_neg (by omega), if_pos h, if_neg (by decide), ho]
theorem cf_bf_4a {l s b : Nat} (h : cf_kd c l = 4) (hs : s < 5) : cf_bf c l s b = (l, 1, s) := by
  rw [cf_bf, if_neg (by omega), if_neg (by omega), if_pos h, if_pos hs]
theorem cf_bf_4b {l s : Nat} (h : cf_kd c l = 4) : cf_bf c l (5 + s) 0 = (l + 1, 0, s) := by
  rw [cf_bf, if_neg (by omega), if_neg (by omega), if_pos h, if_neg (by omega), if_pos rfl, Nat.add_sub_cancel_left]
theorem cf_bf_4c {l s : Nat} (h : cf_kd c l = 4) : cf_bf c l (5 + s) 1 = (cf_cl c l, 1, s) := by
  rw [cf_bf, if_neg (by omega), if_neg (by omega), if_pos h, if_neg (by omega), if_neg (by decide), Nat.add_sub_cancel_left]
theorem cf_bf_5 {l s b : Nat} (h : cf_kd c l = 5) : cf_bf c l s b = (l + 1, 0, s) := by
  rw [cf_bf, if_neg (by omega), if_neg (by omega), if_neg (by omega)]
theorem cf_La_1 {i x : Nat} (h : cf_kd c i ≤ 1) : cf_La c (i + 1) x = if x = cf_va c i then 2 * cf_nb c i else cf_La c i x := by rw [cf_La, if_pos h]
theorem cf_La_2 {i x : Nat} (h : cf_kd c i = 2 ∨ cf_kd c i = 5) : cf_La c (i + 1) x = 2 * (cf_nb c i + x) := by rw [cf_La, if_neg (by omega), if_neg (by omega), if_neg (by omega)]
theorem cf_La_3 {i x : Nat} (h : cf_kd c i = 3) : cf_La c (i + 1) x = 2 * (cf_nb c (cf_op c i) + x) + 1 := by rw [cf_La, if_neg (by omega), if_pos h]
theorem cf_La_4 {i x : Nat} (h : cf_kd c i = 4) : cf_La c (i + 1) x = 2 * (cf_nb c i + (5 + x)) := by rw [cf_La, if_neg (by omega), if_neg (by omega), if_pos h]
theorem cf_Lb_4 {i x : Nat} (h : cf_kd c i = 4) : cf_Lb c i x = 2 * (cf_nb c i + x) := if_pos h
theorem cf_Lb_5 {i x : Nat} (h : cf_kd c i = 5) (h4 : cf_kd c (cf_op c i) = 4) : cf_Lb c i x = 2 * (cf_nb c (cf_op c i) + (5 + x)) + 1 := by rw [cf_Lb, if_neg (by omega), cf_ks, if_pos h4]
theorem cf_Lb_5s {i x m : Nat} (h : cf_kd c i = 5) (h2 : cf_kd c (cf_op c i) = 2) (ho : cf_oth c i (cf_op c i) = some m) : cf_Lb c i x = cf_La c m x := by
  rw [cf_Lb, if_neg (by omega), cf_ks, if_neg (by omega), ho]
theorem cf_Lb_5n {i x : Nat} (h : cf_kd c i = 5) (h2 : cf_kd c (cf_op c i) = 2) (ho : cf_oth c i (cf_op c i) = none) : cf_Lb c i x = 2 * (cf_nb c (cf_op c i) + x) + 1 := by
  rw [cf_Lb, if_neg (by omega), cf_ks, if_neg (by omega), ho]
/-! chains: from place to place without a new token for x -/
def cf_okc (c : CF) (x i f : Nat) : Prop := i < cf_n c ∧ f = 0 ∧ ((cf_kd c i ≤ 1 ∧ x ≠ cf_va c i) ∨ cf_kd c i = 3)
def cf_nc (c : CF) (i : Nat) : Nat × Nat := if cf_kd c i ≤ 1 then (i + 1, 0) else (cf_cl c (cf_op c i), 1)
def cf_ch (c : CF) (x : Nat) : Nat → Nat → Nat → Nat → Nat → Prop
  | 0, i, f, i', f' => i = i' ∧ f = f'
  | k + 1, i, f, i', f' => cf_okc c x i f ∧ cf_ch c x k (cf_nc c i).1 (cf_nc c i).2 i' f'
theorem cf_ch_s {x : Nat} : ∀ k i f i' f', cf_ch c x k i f i' f' → cf_okc c x i' f' → cf_ch c x (k + 1) i f (cf_nc c i').1 (cf_nc c i').2 := by
  intro k
  induction k with
  | zero =>
    rintro i f i' f' ⟨rfl, rfl⟩ h
    exact ⟨h, rfl, rfl⟩
  | succ k ih =>
    rintro i f i' f' ⟨a, b⟩ h
    exact ⟨a, ih _ _ _ _ b h⟩
theorem cf_ch_d {x : Nat} : ∀ k k' i f i1 f1 i2 f2, cf_ch c x k i f i1 f1 → cf_ch c x k' i f i2 f2 → ¬ cf_okc c x i1 f1 → ¬ cf_okc c x i2 f2 → i1 = i2 ∧ f1 = f2 := by
  intro k
  induction k with
  | zero =>
    rintro k' i f i1 f1 i2 f2 ⟨rfl, rfl⟩ h n1 n2
    cases k' with
    | zero => exact h
    | succ k' => exact absurd h.1 n1
  | succ k ih =>
    rintro k' i f i1 f1 i2 f2 ⟨a, b⟩ h n1 n2
    cases k' with
    | zero =>
      obtain ⟨rfl, rfl⟩ := h
      exact absurd a n2
    | succ k' => exact ih k' _ _ _ _ _ _ b h.2 n1 n2
theorem cf_chA (k : cf_ok c) {y : Nat} (hy : y < 5) : ∀ i, i ≤ cf_n c → ∃ i0 f0 m, cf_bi c (cf_La c i y) i0 f0 y ∧ cf_ch c y m i0 f0 i 0 := by
  intro i
  induction i with
  | zero => intro _; exact ⟨0, 0, 0, Or.inl ⟨rfl, hy, rfl, rfl⟩, rfl, rfl⟩
  | succ i ih =>
    intro hi
    have hi' : i < cf_n c := by omega
    by_cases h1 : cf_kd c i ≤ 1
    · rw [cf_La_1 h1]
      by_cases hv : y = cf_va c i
      · rw [if_pos hv]
        exact ⟨i + 1, 0, 0, Or.inr ⟨i, 0, 0, by rw [cf_wd1 h1]; omega, by omega, by omega, by rw [cf_bf_1 h1, hv]⟩, rfl, rfl⟩
      · rw [if_neg hv]
        obtain ⟨i0, f0, m, a, b⟩ := ih (by omega)
        have h := cf_ch_s _ _ _ _ _ b ⟨hi', rfl, Or.inl ⟨h1, hv⟩⟩
        rw [cf_nc, if_pos h1] at h
        exact ⟨i0, f0, m + 1, a, h⟩
    · rcases cf_k6 k.1 hi' with h | h | h | h | h | h
      · omega
      · omega
      · rw [cf_La_2 (Or.inl h)]
        exact ⟨i + 1, 0, 0, Or.inr ⟨i, y, 0, by rw [cf_wd5 (Or.inl h)]; exact hy, by omega, rfl, cf_bf_2 h⟩, rfl, rfl⟩
      · obtain ⟨a1, a2, a3, a4, a5, a6, a7⟩ := cf_ot_3 k hi' h
        rw [cf_La_3 h]
        exact ⟨i + 1, 0, 0, Or.inr ⟨cf_op c i, y, 1, by rw [cf_wd5 (Or.inl a3)]; exact hy, by omega, rfl, cf_bf_2s a3 a2⟩, rfl, rfl⟩
      · rw [cf_La_4 h]
        exact ⟨i + 1, 0, 0, Or.inr ⟨i, 5 + y, 0, by rw [cf_wd10 h]; omega, by omega, rfl, cf_bf_4b h⟩, rfl, rfl⟩
      · rw [cf_La_2 (Or.inr h)]
        exact ⟨i + 1, 0, 0, Or.inr ⟨i, y, 0, by rw [cf_wd5 (Or.inr h)]; exact hy, by omega, rfl, cf_bf_5 h⟩, rfl, rfl⟩
theorem cf_chL (k : cf_ok c) {y i f : Nat} (hy : y < 5) (v : cf_pos c i f) : ∃ i0 f0 m, cf_bi c (cf_loc c i f y) i0 f0 y ∧ cf_ch c y m i0 f0 i f := by
  obtain ⟨h1, rfl | ⟨rfl, h2, h3⟩⟩ := v
  · rw [cf_loc_0]
    exact cf_chA k hy i h1
  · rw [cf_loc_1]
    rcases h3 with h4 | h5
    · rw [cf_Lb_4 h4]
      exact ⟨i, 1, 0, Or.inr ⟨i, y, 0, by rw [cf_wd10 h4]; omega, by omega, rfl, cf_bf_4a h4 hy⟩, rfl, rfl⟩
    · obtain ⟨a1, a2, a3, a4, a5⟩ := cf_cl_c k h2 h5
      rcases a3 with b2 | b4
      · have e := cf_oth_cl k (j := cf_op c i) (by omega) (Or.inl b2)
        rw [a2] at e
        cases ho : cf_ot c (cf_op c i) with
        | none =>
          rw [cf_Lb_5n h5 b2 (e.trans ho)]
          exact ⟨i, 1, 0, Or.inr ⟨cf_op c i, y, 1, by rw [cf_wd5 (Or.inl b2)]; exact hy, by omega, rfl, by rw [cf_bf_2n b2 ho, a2]⟩, rfl, rfl⟩
        | some m =>
          rw [cf_Lb_5s h5 b2 (e.trans ho)]
          obtain ⟨d1, d2, d3⟩ := cf_ot_s k ho
          obtain ⟨i0, f0, m', g1, g2⟩ := cf_chA k hy m (by omega)
          have h := cf_ch_s _ _ _ _ _ g2 ⟨d1, rfl, Or.inr d2⟩
          rw [cf_nc, if_neg (by omega), d3, a2] at h
          exact ⟨i0, f0, m' + 1, g1, h⟩
      · rw [cf_Lb_5 h5 b4]
        exact ⟨i, 1, 0, Or.inr ⟨cf_op c i, 5 + y, 1, by rw [cf_wd10 b4]; omega, by omega, rfl, by rw [cf_bf_4c b4, a2]⟩, rfl, rfl⟩
/-- the two outputs that meet in a join differ -/
theorem cf_join_ne (k : cf_ok c) {i y : Nat} (hi : i < cf_n c) (h5 : cf_kd c i = 5) (hy : y < 5) : cf_La c i y ≠ cf_Lb c i y := by
  intro e
  obtain ⟨i0, f0, m, a, b⟩ := cf_chL k (i := i) (f := 0) hy ⟨by omega, Or.inl rfl⟩
  obtain ⟨i1, f1, m1, a', b'⟩ := cf_chL k (i := i) (f := 1) hy ⟨by omega, Or.inr ⟨rfl, hi, Or.inr h5⟩⟩
  have e2 : cf_loc c i 0 y = cf_loc c i 1 y := by rw [cf_loc_0, cf_loc_1]; exact e
  rw [e2] at a
  obtain ⟨rfl, rfl, _⟩ := cf_bi_u a a'
  have := cf_ch_d _ _ _ _ _ _ _ _ b b' (by rintro ⟨_, _, h | h⟩ <;> omega) (by rintro ⟨_, h, _⟩; omega)
  omega
end
end
section
/-! the edges: (line, phase, variable, input) -/
def cf_E (c : CF) (d : Nat × Nat × Nat × Nat) : Nat × Nat × Nat := (cf_loc c d.1 d.2.1 (cf_sv c d.1 d.2.1 d.2.2.1 d.2.2.2), cf_nd c d.1 d.2.1 d.2.2.1, d.2.2.2)
def cf_dch (i f : Nat) : Nat → List (Nat × Nat × Nat × Nat)
  | 0 => []
  | x + 1 => (i, f, x, 1) :: (i, f, x, 0) :: cf_dch i f x
def cf_dsg (i : Nat) : Nat → List (Nat × Nat × Nat × Nat)
  | 0 => []
  | x + 1 => (i, 0, x, 0) :: cf_dsg i x
def cf_dcl (i j : Nat) : Nat → List (Nat × Nat × Nat × Nat)
  | 0 => []
  | x + 1 => (i, 1, x, 0) :: (i, 0, x, j) :: cf_dcl i j x
def cf_dl (c : CF) (i : Nat) : List (Nat × Nat × Nat × Nat) :=
  if cf_kd c i = 0 then [(i, 0, cf_va c i, 0)] else if cf_kd c i = 1 then [(i, 0, cf_va c i, 1), (i, 0, cf_va c i, 0)]
  else if cf_kd c i = 2 then cf_dch i 0 5 else if cf_kd c i = 3 then []
  else if cf_kd c i = 4 then cf_dch i 1 5 ++ cf_dsg i 5 else cf_dcl i (cf_in c i 0) 5
def cf_gd (c : CF) : Nat → List (Nat × Nat × Nat × Nat)
  | 0 => []
  | i + 1 => cf_dl c i ++ cf_gd c i
def cf_all (c : CF) : List (Nat × Nat × Nat × Nat) := cf_dsg (cf_n c) 5 ++ cf_gd c (cf_n c)
section
variable {c : CF}
theorem cf_dch_m (i f i' f' x j : Nat) : ∀ m, (i', f', x, j) ∈ cf_dch i f m ↔ i' = i ∧ f' = f ∧ x < m ∧ j < 2 := by
  intro m
  induction m with
  | zero => simp [cf_dch]
  | succ m ih =>
    simp only [cf_dch, List.mem_cons, ih, Prod.mk.injEq]
    omega
theorem cf_dsg_m (i i' f' x j : Nat) : ∀ m, (i', f', x, j) ∈ cf_dsg i m ↔ i' = i ∧ f' = 0 ∧ x < m ∧ j = 0 := by
  intro m
  induction m with
  | zero => simp [cf_dsg]
  | succ m ih =>
    simp only [cf_dsg, List.mem_cons, ih, Prod.mk.injEq]
    omega
theorem cf_dcl_m (i jj i' f' x j : Nat) : ∀ m, (i', f', x, j) ∈ cf_dcl i jj m ↔ i' = i ∧ x < m ∧ ((f' = 1 ∧ j = 0) ∨ (f' = 0 ∧ j = jj)) := by
  intro m
  induction m with
  | zero => simp [cf_dcl]
  | succ m ih =>
    simp only [cf_dcl, List.mem_cons, ih, Prod.mk.injEq]
    omega
theorem cf_dch_n (i f : Nat) : ∀ m, (cf_dch i f m).Nodup ∧ (cf_dch i f m).length = 2 * m := by
  intro m
  induction m with
  | zero => exact ⟨List.nodup_nil, rfl⟩
  | succ m ih =>
    refine ⟨?_, by simp only [cf_dch, List.length_cons, ih.2]; omega⟩
    simp only [cf_dch, List.nodup_cons, List.mem_cons, cf_dch_m, Prod.mk.injEq]
    exact ⟨by omega, by omega, ih.1⟩
theorem cf_dsg_n (i : Nat) : ∀ m, (cf_dsg i m).Nodup ∧ (cf_dsg i m).length = m := by
  intro m
  induction m with
  | zero => exact ⟨List.nodup_nil, rfl⟩
  | succ m ih =>
    refine ⟨?_, by simp only [cf_dsg, List.length_cons, ih.2]⟩
    simp only [cf_dsg, List.nodup_cons, cf_dsg_m]
    exact ⟨by omega, ih.1⟩
theorem cf_dcl_n (i j : Nat) : ∀ m, (cf_dcl i j m).Nodup ∧ (cf_dcl i j m).length = 2 * m := by
  intro m
  induction m with
  | zero => exact ⟨List.nodup_nil, rfl⟩
  | succ m ih =>
    refine ⟨?_, by simp only [cf_dcl, List.length_cons, ih.2]; omega⟩
    simp only [cf_dcl, List.nodup_cons, List.mem_cons, cf_dcl_m, Prod.mk.injEq]
    exact ⟨by omega, by omega, ih.1⟩
theorem cf_ek_s {i f : Nat} (h : i < cf_n c) (h4 : cf_kd c i < 4) : cf_ek c i f = cf_kd c i := by rw [cf_ek, if_neg (by omega), if_pos h4]
theorem cf_ek_4 {i : Nat} (h : i < cf_n c) (h4 : cf_kd c i = 4) : cf_ek c i 0 = 4 ∧ cf_ek c i 1 = 5 := by
  constructor
  · rw [cf_ek, if_neg (by omega), if_neg (by omega), if_pos h4, if_pos rfl]
  · rw [cf_ek, if_neg (by omega), if_neg (by omega), if_pos h4, if_neg (by decide)]
theorem cf_ek_6 {i f : Nat} (h : i < cf_n c) (h5 : cf_kd c i = 5) (h2 : cf_kd c (cf_op c i) = 2) : cf_ek c i f = 6 := by
  rw [cf_ek, if_neg (by omega), if_neg (by omega), if_neg (by omega), if_pos h2]
theorem cf_ek_7 {i : Nat} (h : i < cf_n c) (h5 : cf_kd c i = 5) (h4 : cf_kd c (cf_op c i) = 4) : cf_ek c i 0 = 7 ∧ cf_ek c i 1 = 8 := by
  constructor
  · rw [cf_ek, if_neg (by omega), if_neg (by omega), if_neg (by omega), if_neg (by omega), if_pos rfl]
  · rw [cf_ek, if_neg (by omega), if_neg (by omega), if_neg (by omega), if_neg (by omega), if_neg (by decide)]
theorem cf_ek_9 {i f : Nat} (h : cf_n c ≤ i) : cf_ek c i f = 9 := if_pos h
theorem cf_sl_e {i f x j : Nat} {e : Nat} (h : cf_ek c i f = e) : cf_sl c i f x j ↔ (match (generalizing := false) e with
  | 0 => x = cf_va c i ∧ j = 0
  | 1 => x = cf_va c i ∧ j < 2
  | 2 => x < 5 ∧ j < 2
  | 5 => x < 5 ∧ j < 2
  | 3 => False
  | 7 => x < 5 ∧ j = 1
  | _ => x < 5 ∧ j = 0) := by
  subst h; exact Iff.rfl
theorem cf_dl_m (k : cf_ok c) {i : Nat} (hi : i < cf_n c) (i' f x j : Nat) : (i', f, x, j) ∈ cf_dl c i ↔ i' = i ∧ cf_pos c i f ∧ cf_sl c i f x j := by
  have hp0 : cf_pos c i 0 := ⟨by omega, Or.inl rfl⟩
  rcases cf_k6 k.1 hi with h | h | h | h | h | h
  · have e := cf_ek_s (f := f) hi (by omega : cf_kd c i < 4)
    rw [h] at e
    rw [cf_dl, if_pos h, cf_sl_e e, cf_pos]
    simp only [List.mem_singleton, Prod.mk.injEq]
    omega
  · have e := cf_ek_s (f := f) hi (by omega : cf_kd c i < 4)
    rw [h] at e
    rw [cf_dl, if_neg (by omega), if_pos h, cf_sl_e e, cf_pos]
    simp only [List.mem_cons, List.not_mem_nil, or_false, Prod.mk.injEq]
    omega
  · have e := cf_ek_s (f := f) hi (by omega : cf_kd c i < 4)
    rw [h] at e
    rw [cf_dl, if_neg (by omega), if_neg (by omega), if_pos h, cf_sl_e e, cf_pos, cf_dch_m]
    simp only []
    omega
  · have e := cf_ek_s (f := f) hi (by omega : cf_kd c i < 4)
    rw [h] at e
    rw [cf_dl, if_neg (by omega), if_neg (by omega), if_neg (by omega), if_pos h, cf_sl_e e]
    simp
  · obtain ⟨e0, e1⟩ := cf_ek_4 hi h
    rw [cf_dl, if_neg (by omega), if_neg (by omega), if_neg (by omega), if_neg (by omega), if_pos h, List.mem_append, cf_dch_m, cf_dsg_m]
    by_cases hf : f = 0
    · subst hf
      rw [cf_sl_e e0, cf_pos]
      simp <;> omega
    · by_cases hf1 : f = 1
      · subst hf1
        rw [cf_sl_e e1, cf_pos]
        simp <;> omega
      · rw [cf_pos]
        omega
  · rw [cf_dl, if_neg (by omega), if_neg (by omega), if_neg (by omega), if_neg (by omega), if_neg (by omega), cf_dcl_m]
    have h8 := (cf_cl_c k hi h).2.2.1
    by_cases h2 : cf_kd c (cf_op c i) = 2
    · have e := cf_ek_6 (f := f) hi h h2
      have e0 := cf_ek_6 (f := 0) hi h h2
      rw [cf_sl_e e, cf_pos, cf_in, e0, if_neg (by decide)]
      simp only []
      omega
    · obtain ⟨e0, e1⟩ := cf_ek_7 hi h (by omega)
      rw [cf_in, e0, if_pos rfl]
      by_cases hf : f = 0
      · subst hf
        rw [cf_sl_e e0, cf_pos]
        simp <;> omega
      · by_cases hf1 : f = 1
        · subst hf1
          rw [cf_sl_e e1, cf_pos]
          simp <;> omega
        · rw [cf_pos]
          omega
theorem cf_dl_n (c : CF) (i : Nat) : (cf_dl c i).Nodup ∧ (cf_dl c i).length ≤ 15 := by
  unfold cf_dl
  split
  · exact ⟨by simp, by simp⟩
  · split
    · exact ⟨by simp, by simp⟩
    · split
      · exact ⟨(cf_dch_n _ _ _).1, by rw [(cf_dch_n _ _ _).2]; omega⟩
      · split
        · exact ⟨List.nodup_nil, by simp⟩
        · split
          · refine ⟨?_, by rw [List.length_append, (cf_dch_n _ _ _).2, (cf_dsg_n _ _).2]; omega⟩
            rw [List.nodup_append]
            refine ⟨(cf_dch_n _ _ _).1, (cf_dsg_n _ _).1, ?_⟩
            rintro ⟨i1, f1, x1, j1⟩ h1 ⟨i2, f2, x2, j2⟩ h2 e
            rw [cf_dch_m] at h1
            rw [cf_dsg_m] at h2
            cases e
            omega
          · exact ⟨(cf_dcl_n _ _ _).1, by rw [(cf_dcl_n _ _ _).2]; omega⟩
theorem cf_gd_m (k : cf_ok c) (i f x j : Nat) : ∀ N, N ≤ cf_n c → ((i, f, x, j) ∈ cf_gd c N ↔ i < N ∧ cf_pos c i f ∧ cf_sl c i f x j) := by
  intro N
  induction N with
  | zero => intro _; simp [cf_gd]
  | succ N ih =>
    intro hN
    rw [cf_gd, List.mem_append, ih (by omega), cf_dl_m k (by omega)]
    constructor
    · rintro (⟨rfl, h⟩ | ⟨h1, h⟩)
      · exact ⟨by omega, h⟩
      · exact ⟨by omega, h⟩
    · rintro ⟨h1, h⟩
      by_cases e : i = N
      · subst e; exact Or.inl ⟨rfl, h⟩
      · exact Or.inr ⟨by omega, h⟩
theorem cf_all_m (k : cf_ok c) (i f x j : Nat) : (i, f, x, j) ∈ cf_all c ↔ cf_pos c i f ∧ cf_sl c i f x j := by
  rw [cf_all, List.mem_append, cf_gd_m k _ _ _ _ _ (Nat.le_refl _), cf_dsg_m]
  constructor
  · rintro (⟨rfl, rfl, hx, rfl⟩ | ⟨_, h⟩)
    · exact ⟨⟨Nat.le_refl _, Or.inl rfl⟩, (cf_sl_e (cf_ek_9 (Nat.le_refl _))).mpr ⟨hx, rfl⟩⟩
    · exact h
  · rintro ⟨h1, h2⟩
    by_cases e : i < cf_n c
    · exact Or.inr ⟨e, h1, h2⟩
    · have h3 := (cf_sl_e (cf_ek_9 (by omega))).mp h2
      have h4 := h1.1
      have h5 := h1.2
      simp only [] at h3
      exact Or.inl (by omega)
theorem cf_gd_n (k : cf_ok c) : ∀ N, N ≤ cf_n c → (cf_gd c N).Nodup ∧ (cf_gd c N).length ≤ 15 * N := by
  intro N
  induction N with
  | zero => intro _; exact ⟨List.nodup_nil, Nat.le_refl _⟩
  | succ N ih =>
    intro hN
    obtain ⟨a, b⟩ := ih (by omega)
    obtain ⟨a', b'⟩ := cf_dl_n c N
    refine ⟨?_, by rw [cf_gd, List.length_append]; omega⟩
    rw [cf_gd, List.nodup_append]
    refine ⟨a', a, ?_⟩
    rintro ⟨i1, f1, x1, j1⟩ h1 ⟨i2, f2, x2, j2⟩ h2 e
    rw [cf_dl_m k (by omega)] at h1
    rw [cf_gd_m k _ _ _ _ _ (by omega)] at h2
    cases e
    omega
theorem cf_all_n (k : cf_ok c) : (cf_all c).Nodup ∧ (cf_all c).length ≤ 305 := by
  obtain ⟨a, b⟩ := cf_gd_n k _ (Nat.le_refl _)
  have h20 := k.1.1
  refine ⟨?_, by rw [cf_all, List.length_append, (cf_dsg_n _ _).2]; omega⟩
  rw [cf_all, List.nodup_append]
  refine ⟨(cf_dsg_n _ _).1, a, ?_⟩
  rintro ⟨i1, f1, x1, j1⟩ h1 ⟨i2, f2, x2, j2⟩ h2 e
  rw [cf_dsg_m] at h1
  rw [cf_gd_m k _ _ _ _ _ (Nat.le_refl _)] at h2
  cases e
  omega
/-! nodes, decoded -/
def cf_nl (c : CF) (i f x : Nat) : Nat × Nat := match cf_ek c i f with
  | 0 => (i, 0)
  | 1 => (i, 0)
  | 5 => (i, 5 + x)
  | 7 => (cf_op c i, x)
  | _ => (i, x)
def cf_ow (c : CF) (l s j : Nat) : Nat × Nat := if cf_kd c l ≤ 1 then (l, cf_va c l) else if cf_kd c l = 4 then (if s < 5 then (if j = 0 then (l, s) else (cf_cl c l, s)) else (l, s - 5)) else (l, s)
theorem cf_nd_dec (k : cf_ok c) {i f x j : Nat} (v : cf_pos c i f) (hi : i < cf_n c) (s : cf_sl c i f x j) :
    cf_nd c i f x = cf_nb c (cf_nl c i f x).1 + (cf_nl c i f x).2 ∧ (cf_nl c i f x).2 < cf_wd c (cf_nl c i f x).1 ∧ cf_ow c (cf_nl c i f x).1 (cf_nl c i f x).2 j = (i, x) := by
  rcases cf_cases k v with ⟨e, _, hf, hk⟩ | ⟨e, _, hf, hk⟩ | ⟨e, _, hf, hk⟩ | ⟨e, _, hf, hk⟩ | ⟨e, _, hf, hk⟩ | ⟨e, _, hf, hk⟩ | ⟨e, _, hf, hk, hk2⟩ | ⟨e, _, hf, hk, hk2⟩ | ⟨e, _, hf, hk, hk2⟩ | ⟨e, hn, hf⟩
  · have h := (cf_sl_e e).mp s
    simp only [] at h
    simp only [cf_nd, cf_nl, e]
    refine ⟨rfl, by rw [cf_wd1 (by omega)]; omega, ?_⟩
    rw [cf_ow, if_pos (by omega), h.1]
  · have h := (cf_sl_e e).mp s
    simp only [] at h
    simp only [cf_nd, cf_nl, e]
    refine ⟨rfl, by rw [cf_wd1 (by omega)]; omega, ?_⟩
    rw [cf_ow, if_pos (by omega), h.1]
  · have h := (cf_sl_e e).mp s
    simp only [] at h
    simp only [cf_nd, cf_nl, e]
    refine ⟨by trivial, by rw [cf_wd5 (Or.inl hk)]; omega, ?_⟩
    rw [cf_ow, if_neg (by omega), if_neg (by omega)]
  · exact ((cf_sl_e e).mp s).elim
  · have h := (cf_sl_e e).mp s
    simp only [] at h
    simp only [cf_nd, cf_nl, e]
    refine ⟨by trivial, by rw [cf_wd10 hk]; omega, ?_⟩
    rw [cf_ow, if_neg (by omega), if_pos hk, if_pos h.1, if_pos h.2]
  · have h := (cf_sl_e e).mp s
    simp only [] at h
    simp only [cf_nd, cf_nl, e]
    refine ⟨by trivial, by rw [cf_wd10 hk]; omega, ?_⟩
    rw [cf_ow, if_neg (by omega), if_pos hk, if_neg (by omega), Nat.add_sub_cancel_left]
  · have h := (cf_sl_e e).mp s
    simp only [] at h
    simp only [cf_nd, cf_nl, e]
    refine ⟨by trivial, by rw [cf_wd5 (Or.inr hk)]; omega, ?_⟩
    rw [cf_ow, if_neg (by omega), if_neg (by omega)]
  · have h := (cf_sl_e e).mp s
    simp only [] at h
    simp only [cf_nd, cf_nl, e]
    refine ⟨by trivial, by rw [cf_wd10 hk2]; omega, ?_⟩
    rw [cf_ow, if_neg (by omega), if_pos hk2, if_pos h.1, if_neg (by omega), (cf_cl_c k hi hk).2.1]
  · have h := (cf_sl_e e).mp s
    simp only [] at h
    simp only [cf_nd, cf_nl, e]
    refine ⟨by trivial, by rw [cf_wd5 (Or.inr hk)]; omega, ?_⟩
    rw [cf_ow, if_neg (by omega), if_neg (by omega)]
  · omega
/-- a node and its input are met on one line alone -/
theorem cf_nd_u (k : cf_ok c) {i f x j i' f' x' : Nat} (v : cf_pos c i f) (v' : cf_pos c i' f') (hi : i < cf_n c) (hi' : i' < cf_n c) (s : cf_sl c i f x j) (s' : cf_sl c i' f' x' j)
    (e : cf_nd c i f x = cf_nd c i' f' x') : i = i' ∧ x = x' ∧ cf_nl c i f x = cf_nl c i' f' x' := by
  obtain ⟨a1, a2, a3⟩ := cf_nd_dec k v hi s
  obtain ⟨b1, b2, b3⟩ := cf_nd_dec k v' hi' s'
  obtain ⟨c1, c2⟩ := cf_dec a2 b2 (by omega)
  rw [c1, c2, b3] at a3
  cases a3
  exact ⟨rfl, rfl, Prod.ext c1 c2⟩
theorem cf_nd_9 {i f x : Nat} (h : cf_n c ≤ i) : cf_nd c i f x = 5 + x := by
  simp only [cf_nd, cf_ek_9 h]
theorem cf_nd_lo (k : cf_ok c) {i f x j : Nat} (v : cf_pos c i f) (hi : i < cf_n c) (s : cf_sl c i f x j) : 10 ≤ cf_nd c i f x ∧ cf_nd c i f x < cf_nb c (cf_n c) := by
  obtain ⟨a1, a2, a3⟩ := cf_nd_dec k v hi s
  have := cf_nb_ge (c := c) (cf_nl c i f x).1
  refine ⟨by omega, ?_⟩
  rw [a1]
  apply cf_nb_lt _ a2
  rcases cf_cases k v with ⟨e, _⟩ | ⟨e, _⟩ | ⟨e, _⟩ | ⟨e, _⟩ | ⟨e, _⟩ | ⟨e, _⟩ | ⟨e, _⟩ | ⟨e, _, _, hk, _⟩ | ⟨e, _⟩ | ⟨e, _⟩ <;> simp only [cf_nl, e] <;> try exact hi
  exact Nat.lt_trans (cf_cl_c k hi hk).1 hi
theorem cf_E_inj (k : cf_ok c) {i f x j i' f' x' j' : Nat} (v : cf_pos c i f) (v' : cf_pos c i' f') (s : cf_sl c i f x j) (s' : cf_sl c i' f' x' j')
    (e : cf_E c (i, f, x, j) = cf_E c (i', f', x', j')) : (i, f, x, j) = (i', f', x', j') := by
  have e1 : cf_loc c i f (cf_sv c i f x j) = cf_loc c i' f' (cf_sv c i' f' x' j') := congrArg Prod.fst e
  have e2 : cf_nd c i f x = cf_nd c i' f' x' := congrArg (fun z => z.2.1) e
  have e3 : j = j' := congrArg (fun z => z.2.2) e
  subst e3
  by_cases hi : i < cf_n c
  · by_cases hi' : i' < cf_n c
    · obtain ⟨rfl, rfl, e4⟩ := cf_nd_u k v v' hi hi' s s' e2
      suffices hf : f = f' by rw [hf]
      by_cases hk : cf_kd c i < 4
      · have h1 := v.2
        have h2 := v'.2
        omega
      · have h6 := cf_k6 k.1 hi
        by_cases h4 : cf_kd c i = 4
        · obtain ⟨g0, g1⟩ := cf_ek_4 hi h4
          rcases v.2 with rfl | ⟨rfl, _⟩ <;> rcases v'.2 with rfl | ⟨rfl, _⟩
          · rfl
          · simp only [cf_nl, g0, g1, Prod.mk.injEq] at e4
            omega
          · simp only [cf_nl, g0, g1, Prod.mk.injEq] at e4
            omega
          · rfl
        · have h5 : cf_kd c i = 5 := by omega
          have h8 := (cf_cl_c k hi h5).2.2.1
          by_cases h2 : cf_kd c (cf_op c i) = 2
          · have g0 := cf_ek_6 (f := 0) hi h5 h2
            have g1 := cf_ek_6 (f := 1) hi h5 h2
            rcases v.2 with rfl | ⟨rfl, _⟩ <;> rcases v'.2 with rfl | ⟨rfl, _⟩
            · rfl
            · have hx := ((cf_sl_e g0).mp s).1
              simp only [cf_sv, g0, g1, cf_loc_0, cf_loc_1] at e1
              exact absurd e1 (cf_join_ne k hi h5 hx)
            · have hx := ((cf_sl_e g1).mp s).1
              simp only [cf_sv, g0, g1, cf_loc_0, cf_loc_1] at e1
              exact absurd e1.symm (cf_join_ne k hi h5 hx)
            · rfl
          · obtain ⟨g0, g1⟩ := cf_ek_7 hi h5 (by omega)
            rcases v.2 with rfl | ⟨rfl, _⟩ <;> rcases v'.2 with rfl | ⟨rfl, _⟩
            · rfl
            · have a := ((cf_sl_e g0).mp s).2
              have b := ((cf_sl_e g1).mp s').2
              omega
            · have a := ((cf_sl_e g1).mp s).2
              have b := ((cf_sl_e g0).mp s').2
              omega
            · rfl
    · have h1 := (cf_nd_lo k v hi s).1
      have h2 : cf_n c ≤ i' := by omega
      have h3 := ((cf_sl_e (cf_ek_9 h2)).mp s').1
      rw [cf_nd_9 h2] at e2
      omega
  · have h2 : cf_n c ≤ i := by omega
    have h3 := ((cf_sl_e (cf_ek_9 h2)).mp s).1
    rw [cf_nd_9 h2] at e2
    by_cases hi' : i' < cf_n c
    · have h1 := (cf_nd_lo k v' hi' s').1
      omega
    · have h4 : cf_n c ≤ i' := by omega
      rw [cf_nd_9 h4] at e2
      have h5 := v.1
      have h6 := v'.1
      have h7 := v.2
      have h8 := v'.2
      have a1 : i = i' := by omega
      have a2 : f = f' := by omega
      have a3 : x = x' := by omega
      rw [a1, a2, a3]
theorem cf_sv_lt (k : cf_ok c) {i f x j : Nat} (v : cf_pos c i f) (s : cf_sl c i f x j) : cf_sv c i f x j < 5 := by
  rcases cf_cases k v with ⟨e, hi, hf, hk⟩ | ⟨e, hi, hf, hk⟩ | ⟨e, hi, hf, hk⟩ | ⟨e, hi, hf, hk⟩ | ⟨e, hi, hf, hk⟩ | ⟨e, hi, hf, hk⟩ | ⟨e, hi, hf, hk, hk2⟩ | ⟨e, hi, hf, hk, hk2⟩ | ⟨e, hi, hf, hk, hk2⟩ | ⟨e, hn, hf⟩ <;> have h := (cf_sl_e e).mp s <;> simp only [] at h <;> simp only [cf_sv, e]
  · omega
  · have := (k.1.2 i hi).2.2.2.1 hk
    split <;> omega
  · have := (k.1.2 i hi).2.2.1 (by omega) (by omega)
    split <;> omega
  · omega
  · have := (k.1.2 i hi).2.2.1 (by omega) (by omega)
    split <;> omega
  · omega
  · omega
  · omega
  · omega
end
end
section
/-! the machine that carries the lines out: place, phase, tag, values, times, the step that made each token -/
abbrev MS : Type := Nat × Nat × List (Nat × Nat) × (Nat → Int32) × (Nat → Nat) × (Nat → Nat)
def cf_calc (k a b : Int32) : Int32 := if k = 0 then a + b else if k = 1 then a - b else if k = 2 then a * b else if k = 3 then (if b ≤ a then 0 else 1) else if a = b then 1 else 0
def cf_nv (c : CF) (i f : Nat) (v : Nat → Int32) (x : Nat) : Int32 := match cf_ek c i f with
  | 0 => cf_lb c i
  | 1 => cf_calc (cf_lb c i) (v (cf_vc c i)) (v (cf_vd c i))
  | _ => v x
def cf_nt (c : CF) (i f : Nat) (t : Nat → Nat) (x : Nat) : Nat := match cf_ek c i f with
  | 0 => t 4 + 1
  | 1 => max (t (cf_vc c i)) (t (cf_vd c i)) + 1
  | 2 => max (t x) (t (cf_va c i)) + 1
  | 5 => max (t x) (t (cf_va c i)) + 1
  | _ => t x + 1
def cf_ng (c : CF) (i f : Nat) (g : List (Nat × Nat)) : List (Nat × Nat) := match cf_ek c i f with
  | 4 => (i, 0) :: g
  | 7 => (cf_op c i, (g.headD (0, 0)).2 + 1) :: g.tail
  | 8 => g.tail
  | _ => g
def mc_nx (c : CF) (K : Nat) (s : MS) : MS :=
  ((cf_nx c s.1 s.2.1 (decide (s.2.2.2.1 (cf_va c s.1) = 0))).1,
   (cf_nx c s.1 s.2.1 (decide (s.2.2.2.1 (cf_va c s.1) = 0))).2,
   cf_ng c s.1 s.2.1 s.2.2.1,
   fun x => if cf_fr c s.1 s.2.1 x = true then cf_nv c s.1 s.2.1 s.2.2.2.1 x else s.2.2.2.1 x,
   fun x => if cf_fr c s.1 s.2.1 x = true then cf_nt c s.1 s.2.1 s.2.2.2.2.1 x else s.2.2.2.2.1 x,
   fun x => if cf_fr c s.1 s.2.1 x = true then K + 1 else s.2.2.2.2.2 x)
def mc (c : CF) : Nat → MS
  | 0 => (0, 0, [], fun x => if x < 4 then cf_s0 c x else 0, fun _ => 0, fun _ => 0)
  | K + 1 => mc_nx c K (mc c K)
def mi (c : CF) (K : Nat) : Nat := (mc c K).1
def mf (c : CF) (K : Nat) : Nat := (mc c K).2.1
def mg (c : CF) (K : Nat) : List (Nat × Nat) := (mc c K).2.2.1
def mv (c : CF) (K : Nat) : Nat → Int32 := (mc c K).2.2.2.1
def mt (c : CF) (K : Nat) : Nat → Nat := (mc c K).2.2.2.2.1
def mp (c : CF) (K : Nat) : Nat → Nat := (mc c K).2.2.2.2.2
def mz (c : CF) (K : Nat) : Bool := decide (mv c K (cf_va c (mi c K)) = 0)
def me (c : CF) (K : Nat) : Nat := cf_ek c (mi c K) (mf c K)
def mr (c : CF) (K x : Nat) : Bool := cf_fr c (mi c K) (mf c K) x
section
variable {c : CF}
theorem cf_nc_1 {i : Nat} (h : cf_kd c i ≤ 1) : cf_nc c i = (i + 1, 0) := if_pos h
theorem cf_nc_3 {i : Nat} (h : ¬ cf_kd c i ≤ 1) : cf_nc c i = (cf_cl c (cf_op c i), 1) := if_neg h
theorem mi_s (K : Nat) : mi c (K + 1) = (cf_nx c (mi c K) (mf c K) (mz c K)).1 := rfl
theorem mf_s (K : Nat) : mf c (K + 1) = (cf_nx c (mi c K) (mf c K) (mz c K)).2 := rfl
theorem mg_s (K : Nat) : mg c (K + 1) = cf_ng c (mi c K) (mf c K) (mg c K) := rfl
theorem mv_s (K x : Nat) : mv c (K + 1) x = if mr c K x = true then cf_nv c (mi c K) (mf c K) (mv c K) x else mv c K x := rfl
theorem mt_s (K x : Nat) : mt c (K + 1) x = if mr c K x = true then cf_nt c (mi c K) (mf c K) (mt c K) x else mt c K x := rfl
theorem mp_s (K x : Nat) : mp c (K + 1) x = if mr c K x = true then K + 1 else mp c K x := rfl
theorem cf_nx_e {i f e : Nat} {z : Bool} (h : cf_ek c i f = e) : cf_nx c i f z = (match (generalizing := false) e with
  | 0 => (i + 1, 0)
  | 1 => (i + 1, 0)
  | 2 => if z = true then (match cf_ot c i with
      | some m => (m + 1, 0)
      | none => (cf_cl c i, 1)) else (i + 1, 0)
  | 3 => (cf_cl c (cf_op c i), 1)
  | 4 => (i, 1)
  | 5 => if z = true then (cf_cl c i, 1) else (i + 1, 0)
  | 6 => (i + 1, 0)
  | 7 => (cf_op c i, 1)
  | 8 => (i + 1, 0)
  | _ => (i, f)) := by
  subst h; rfl
theorem cf_nx_2t {i f m : Nat} (h : cf_ek c i f = 2) (ho : cf_ot c i = some m) : cf_nx c i f true = (m + 1, 0) := by
  rw [cf_nx_e h]
  simp only [ho, if_true]
theorem cf_nx_2n {i f : Nat} (h : cf_ek c i f = 2) (ho : cf_ot c i = none) : cf_nx c i f true = (cf_cl c i, 1) := by
  rw [cf_nx_e h]
  simp only [ho, if_true]
theorem cf_nx_2f {i f : Nat} (h : cf_ek c i f = 2) : cf_nx c i f false = (i + 1, 0) := by
  rw [cf_nx_e h]
  rfl
theorem cf_nx_5t {i f : Nat} (h : cf_ek c i f = 5) : cf_nx c i f true = (cf_cl c i, 1) := by
  rw [cf_nx_e h]
  rfl
theorem cf_nx_5f {i f : Nat} (h : cf_ek c i f = 5) : cf_nx c i f false = (i + 1, 0) := by
  rw [cf_nx_e h]
  rfl
theorem cf_nx_pos (k : cf_ok c) {i f : Nat} (v : cf_pos c i f) (z : Bool) : cf_pos c (cf_nx c i f z).1 (cf_nx c i f z).2 := by
  rcases cf_cases k v with ⟨e, hi, hf, hk⟩ | ⟨e, hi, hf, hk⟩ | ⟨e, hi, hf, hk⟩ | ⟨e, hi, hf, hk⟩ | ⟨e, hi, hf, hk⟩ | ⟨e, hi, hf, hk⟩ | ⟨e, hi, hf, hk, hk2⟩ | ⟨e, hi, hf, hk, hk2⟩ | ⟨e, hi, hf, hk, hk2⟩ | ⟨e, hn, hf⟩
  · rw [cf_nx_e e]; exact ⟨hi, Or.inl rfl⟩
  · rw [cf_nx_e e]; exact ⟨hi, Or.inl rfl⟩
  · cases z with
    | false => rw [cf_nx_2f e]; exact ⟨hi, Or.inl rfl⟩
    | true =>
      cases ho : cf_ot c i with
      | none =>
        rw [cf_nx_2n e ho]
        obtain ⟨a1, a2, a3, _⟩ := cf_cl_o k hi (Or.inl hk)
        exact ⟨by simp only []; omega, Or.inr ⟨rfl, a2, Or.inr a3⟩⟩
      | some m =>
        rw [cf_nx_2t e ho]
        exact ⟨(cf_ot_s k ho).1, Or.inl rfl⟩
  · rw [cf_nx_e e]
    obtain ⟨b1, _, b3, _⟩ := cf_ot_3 k hi hk
    obtain ⟨a1, a2, a3, _⟩ := cf_cl_o k (j := cf_op c i) (by omega) (Or.inl b3)
    exact ⟨by simp only []; omega, Or.inr ⟨rfl, a2, Or.inr a3⟩⟩
  · rw [cf_nx_e e]; exact ⟨by simp only []; omega, Or.inr ⟨rfl, hi, Or.inl hk⟩⟩
  · cases z with
    | false => rw [cf_nx_5f e]; exact ⟨hi, Or.inl rfl⟩
    | true =>
      rw [cf_nx_5t e]
      obtain ⟨a1, a2, a3, _⟩ := cf_cl_o k hi (Or.inr hk)
      exact ⟨by simp only []; omega, Or.inr ⟨rfl, a2, Or.inr a3⟩⟩
  · rw [cf_nx_e e]; exact ⟨hi, Or.inl rfl⟩
  · rw [cf_nx_e e]
    have a1 := (cf_cl_c k hi hk).1
    exact ⟨by simp only []; omega, Or.inr ⟨rfl, by simp only []; omega, Or.inl hk2⟩⟩
  · rw [cf_nx_e e]; exact ⟨hi, Or.inl rfl⟩
  · rw [cf_nx_e e]; exact v
theorem mc_pos (k : cf_ok c) : ∀ K, cf_pos c (mi c K) (mf c K)
  | 0 => ⟨Nat.zero_le _, Or.inl rfl⟩
  | K + 1 => cf_nx_pos k (mc_pos k K) _
theorem cf_fr_e {i f x e : Nat} (h : cf_ek c i f = e) : cf_fr c i f x = (match (generalizing := false) e with
  | 0 => x == cf_va c i
  | 1 => x == cf_va c i
  | 3 => false
  | 9 => false
  | _ => decide (x < 5)) := by subst h; rfl
/-- a firing's token lies on an output of its node, and is born where the machine goes -/
theorem cf_out (k : cf_ok c) {i f x : Nat} (v : cf_pos c i f) (z : Bool) (h : cf_fr c i f x = true) :
    cf_loc c (cf_nx c i f z).1 (cf_nx c i f z).2 x = 2 * cf_nd c i f x + (if (cf_ek c i f = 2 ∨ cf_ek c i f = 5) ∧ z = true then 1 else 0) ∧
    cf_bi c (cf_loc c (cf_nx c i f z).1 (cf_nx c i f z).2 x) (cf_nx c i f z).1 (cf_nx c i f z).2 x := by
  rcases cf_cases k v with ⟨e, hi, hf, hk⟩ | ⟨e, hi, hf, hk⟩ | ⟨e, hi, hf, hk⟩ | ⟨e, hi, hf, hk⟩ | ⟨e, hi, hf, hk⟩ | ⟨e, hi, hf, hk⟩ | ⟨e, hi, hf, hk, hk2⟩ | ⟨e, hi, hf, hk, hk2⟩ | ⟨e, hi, hf, hk, hk2⟩ | ⟨e, hn, hf⟩
  · rw [cf_fr_e e] at h
    have hx : x = cf_va c i := by simpa using h
    have hL : cf_loc c (i + 1) 0 x = 2 * cf_nb c i := by
      rw [cf_loc_0, cf_La_1 (by omega), if_pos hx]
    simp only [cf_nx_e e, cf_nd, e]
    rw [hL]
    exact ⟨rfl, Or.inr ⟨i, 0, 0, by rw [cf_wd1 (by omega)]; omega, by omega, by omega, by rw [cf_bf_1 (by omega), hx]⟩⟩
  · rw [cf_fr_e e] at h
    have hx : x = cf_va c i := by simpa using h
    have hL : cf_loc c (i + 1) 0 x = 2 * cf_nb c i := by
      rw [cf_loc_0, cf_La_1 (by omega), if_pos hx]
    simp only [cf_nx_e e, cf_nd, e]
    rw [hL]
    exact ⟨rfl, Or.inr ⟨i, 0, 0, by rw [cf_wd1 (by omega)]; omega, by omega, by omega, by rw [cf_bf_1 (by omega), hx]⟩⟩
  · rw [cf_fr_e e] at h
    have hx : x < 5 := by simpa using h
    have hw : x < cf_wd c i := by rw [cf_wd5 (Or.inl hk)]; exact hx
    simp only [cf_nd, e]
    cases z with
    | false =>
      rw [cf_nx_2f e]
      have hL : cf_loc c (i + 1) 0 x = 2 * (cf_nb c i + x) := by rw [cf_loc_0, cf_La_2 (Or.inl hk)]
      simp only []
      rw [hL]
      exact ⟨by simp, Or.inr ⟨i, x, 0, hw, by omega, rfl, cf_bf_2 hk⟩⟩
    | true =>
      cases ho : cf_ot c i with
      | none =>
        rw [cf_nx_2n e ho]
        obtain ⟨a1, a2, a3, a4, a5, a6⟩ := cf_cl_o k hi (Or.inl hk)
        have hL : cf_loc c (cf_cl c i) 1 x = 2 * (cf_nb c i + x) + 1 := by
          rw [cf_loc_1, cf_Lb_5n a3 (by rw [a6]; exact hk) (by rw [a6, cf_oth_cl k hi (Or.inl hk)]; exact ho), a6]
        simp only []
        rw [hL]
        exact ⟨by simp, Or.inr ⟨i, x, 1, hw, by omega, rfl, cf_bf_2n hk ho⟩⟩
      | some m =>
        rw [cf_nx_2t e ho]
        obtain ⟨d1, d2, d3⟩ := cf_ot_s k ho
        have hL : cf_loc c (m + 1) 0 x = 2 * (cf_nb c i + x) + 1 := by
          rw [cf_loc_0, cf_La_3 d2, d3]
        simp only []
        rw [hL]
        exact ⟨by simp, Or.inr ⟨i, x, 1, hw, by omega, rfl, cf_bf_2s hk ho⟩⟩
  · rw [cf_fr_e e] at h; cases h
  · rw [cf_fr_e e] at h
    have hx : x < 5 := by simpa using h
    have hw : x < cf_wd c i := by rw [cf_wd10 hk]; omega
    have hL : cf_loc c i 1 x = 2 * (cf_nb c i + x) := by rw [cf_loc_1, cf_Lb_4 hk]
    simp only [cf_nx_e e, cf_nd, e]
    rw [hL]
    exact ⟨by simp, Or.inr ⟨i, x, 0, hw, by omega, rfl, cf_bf_4a hk hx⟩⟩
  · rw [cf_fr_e e] at h
    have hx : x < 5 := by simpa using h
    have hw : 5 + x < cf_wd c i := by rw [cf_wd10 hk]; omega
    simp only [cf_nd, e]
    cases z with
    | false =>
      rw [cf_nx_5f e]
      have hL : cf_loc c (i + 1) 0 x = 2 * (cf_nb c i + (5 + x)) := by rw [cf_loc_0, cf_La_4 hk]
      simp only []
      rw [hL]
      exact ⟨by simp, Or.inr ⟨i, 5 + x, 0, hw, by omega, rfl, cf_bf_4b hk⟩⟩
    | true =>
      rw [cf_nx_5t e]
      obtain ⟨a1, a2, a3, a4, a5, a6⟩ := cf_cl_o k hi (Or.inr hk)
      have hL : cf_loc c (cf_cl c i) 1 x = 2 * (cf_nb c i + (5 + x)) + 1 := by
        rw [cf_loc_1, cf_Lb_5 a3 (by rw [a6]; exact hk), a6]
      simp only []
      rw [hL]
      exact ⟨by simp, Or.inr ⟨i, 5 + x, 1, hw, by omega, rfl, cf_bf_4c hk⟩⟩
  · rw [cf_fr_e e] at h
    have hx : x < 5 := by simpa using h
    have hw : x < cf_wd c i := by rw [cf_wd5 (Or.inr hk)]; exact hx
    have hL : cf_loc c (i + 1) 0 x = 2 * (cf_nb c i + x) := by rw [cf_loc_0, cf_La_2 (Or.inr hk)]
    simp only [cf_nx_e e, cf_nd, e]
    rw [hL]
    exact ⟨by simp, Or.inr ⟨i, x, 0, hw, by omega, rfl, cf_bf_5 hk⟩⟩
  · rw [cf_fr_e e] at h
    have hx : x < 5 := by simpa using h
    have hw : x < cf_wd c (cf_op c i) := by rw [cf_wd10 hk2]; omega
    have hL : cf_loc c (cf_op c i) 1 x = 2 * (cf_nb c (cf_op c i) + x) := by rw [cf_loc_1, cf_Lb_4 hk2]
    simp only [cf_nx_e e, cf_nd, e]
    rw [hL]
    exact ⟨by simp, Or.inr ⟨cf_op c i, x, 0, hw, by omega, rfl, cf_bf_4a hk2 hx⟩⟩
  · rw [cf_fr_e e] at h
    have hx : x < 5 := by simpa using h
    have hw : x < cf_wd c i := by rw [cf_wd5 (Or.inr hk)]; exact hx
    have hL : cf_loc c (i + 1) 0 x = 2 * (cf_nb c i + x) := by rw [cf_loc_0, cf_La_2 (Or.inr hk)]
    simp only [cf_nx_e e, cf_nd, e]
    rw [hL]
    exact ⟨by simp, Or.inr ⟨i, x, 0, hw, by omega, rfl, cf_bf_5 hk⟩⟩
  · rw [cf_fr_e e] at h; cases h
/-- what isn't fired stays: its output, the tag; the machine goes the chain's way or has ended -/
theorem cf_keep (k : cf_ok c) {i f x : Nat} (v : cf_pos c i f) (z : Bool) (hx : x < 5) (h : cf_fr c i f x = false) :
    cf_loc c (cf_nx c i f z).1 (cf_nx c i f z).2 x = cf_loc c i f x ∧ (∀ g, cf_ng c i f g = g) ∧
    ((cf_ek c i f = 9 ∧ cf_nx c i f z = (i, f)) ∨ (cf_okc c x i f ∧ cf_nx c i f z = cf_nc c i)) := by
  rcases cf_cases k v with ⟨e, hi, hf, hk⟩ | ⟨e, hi, hf, hk⟩ | ⟨e, hi, hf, hk⟩ | ⟨e, hi, hf, hk⟩ | ⟨e, hi, hf, hk⟩ | ⟨e, hi, hf, hk⟩ | ⟨e, hi, hf, hk, hk2⟩ | ⟨e, hi, hf, hk, hk2⟩ | ⟨e, hi, hf, hk, hk2⟩ | ⟨e, hn, hf⟩
  · rw [cf_fr_e e] at h
    have hv : x ≠ cf_va c i := by simpa using h
    subst hf
    refine ⟨?_, by intro g; simp only [cf_ng, e], Or.inr ⟨⟨hi, rfl, Or.inl ⟨by omega, hv⟩⟩, (cf_nx_e e).trans (cf_nc_1 (by omega)).symm⟩⟩
    rw [cf_nx_e e]
    simp only []
    rw [cf_loc_0, cf_loc_0, cf_La_1 (by omega), if_neg hv]
  · rw [cf_fr_e e] at h
    have hv : x ≠ cf_va c i := by simpa using h
    subst hf
    refine ⟨?_, by intro g; simp only [cf_ng, e], Or.inr ⟨⟨hi, rfl, Or.inl ⟨by omega, hv⟩⟩, (cf_nx_e e).trans (cf_nc_1 (by omega)).symm⟩⟩
    rw [cf_nx_e e]
    simp only []
    rw [cf_loc_0, cf_loc_0, cf_La_1 (by omega), if_neg hv]
  · rw [cf_fr_e e] at h; simp only [decide_eq_false_iff_not] at h; omega
  · subst hf
    obtain ⟨b1, b2, b3, b4, b5, b6, b7⟩ := cf_ot_3 k hi hk
    obtain ⟨a1, a2, a3, a4, a5, a6⟩ := cf_cl_o k (j := cf_op c i) (by omega) (Or.inl b3)
    refine ⟨?_, by intro g; simp only [cf_ng, e], Or.inr ⟨⟨hi, rfl, Or.inr hk⟩, (cf_nx_e e).trans (cf_nc_3 (by omega)).symm⟩⟩
    rw [cf_nx_e e]
    simp only []
    rw [cf_loc_0, cf_loc_1, cf_Lb_5s a3 (by rw [a6]; exact b3) (by rw [a6, cf_oth_cl k (by omega) (Or.inl b3)]; exact b2)]
  · rw [cf_fr_e e] at h; simp only [decide_eq_false_iff_not] at h; omega
  · rw [cf_fr_e e] at h; simp only [decide_eq_false_iff_not] at h; omega
  · rw [cf_fr_e e] at h; simp only [decide_eq_false_iff_not] at h; omega
  · rw [cf_fr_e e] at h; simp only [decide_eq_false_iff_not] at h; omega
  · rw [cf_fr_e e] at h; simp only [decide_eq_false_iff_not] at h; omega
  · have e9 : cf_nx c i f z = (i, f) := cf_nx_e e
    exact ⟨by rw [e9], by intro g; simp only [cf_ng, e], Or.inl ⟨e, e9⟩⟩
/-! tokens -/
def mc_real (c : CF) (K x : Nat) : Prop := x < 5 ∧ (K = 0 ∨ ∃ K', K = K' + 1 ∧ mr c K' x = true)
theorem mc_M1 (k : cf_ok c) {x : Nat} (hx : x < 5) : ∀ K, mp c K x ≤ K ∧ mc_real c (mp c K x) x ∧ mv c (mp c K x) x = mv c K x ∧ mt c (mp c K x) x = mt c K x ∧ mg c (mp c K x) = mg c K ∧
    cf_loc c (mi c (mp c K x)) (mf c (mp c K x)) x = cf_loc c (mi c K) (mf c K) x := by
  intro K
  induction K with
  | zero => exact ⟨Nat.le_refl _, ⟨hx, Or.inl rfl⟩, rfl, rfl, rfl, rfl⟩
  | succ K ih =>
    by_cases h : mr c K x = true
    · have e : mp c (K + 1) x = K + 1 := by rw [mp_s, if_pos h]
      rw [e]
      exact ⟨Nat.le_refl _, ⟨hx, Or.inr ⟨K, rfl, h⟩⟩, rfl, rfl, rfl, rfl⟩
    · have e : mp c (K + 1) x = mp c K x := by rw [mp_s, if_neg h]
      have h' : cf_fr c (mi c K) (mf c K) x = false := by simpa [mr] using h
      obtain ⟨a1, a2, a3, a4, a5, a6⟩ := ih
      obtain ⟨b1, b2, b3⟩ := cf_keep k (mc_pos k K) (mz c K) hx h'
      rw [e]
      refine ⟨by omega, a2, ?_, ?_, ?_, ?_⟩
      · rw [a3, mv_s, if_neg h]
      · rw [a4, mt_s, if_neg h]
      · rw [a5, mg_s, b2]
      · rw [a6, mi_s, mf_s, b1]
theorem mc_rp {K x : Nat} (h : mc_real c K x) : mp c K x = K := by
  obtain ⟨_, rfl | ⟨K', rfl, h⟩⟩ := h
  · rfl
  · rw [mp_s, if_pos h]
theorem mc_bi (k : cf_ok c) {K x : Nat} (h : mc_real c K x) : cf_bi c (cf_loc c (mi c K) (mf c K) x) (mi c K) (mf c K) x := by
  obtain ⟨hx, rfl | ⟨K', rfl, h⟩⟩ := h
  · exact Or.inl ⟨rfl, hx, rfl, rfl⟩
  · exact (cf_out k (mc_pos k K') (mz c K') h).2
theorem mc_okf {x i f : Nat} (h : cf_okc c x i f) : cf_fr c i f x = false := by
  obtain ⟨hi, rfl, ⟨h1, h2⟩ | h3⟩ := h
  · have e : cf_ek c i 0 = cf_kd c i := cf_ek_s hi (by omega)
    rcases (by omega : cf_kd c i = 0 ∨ cf_kd c i = 1) with h | h
    · rw [cf_fr_e (e.trans h)]; simpa using h2
    · rw [cf_fr_e (e.trans h)]; simpa using h2
  · have e : cf_ek c i 0 = cf_kd c i := cf_ek_s hi (by omega)
    exact cf_fr_e (e.trans h3)
theorem mc_ch (k : cf_ok c) {x : Nat} (hx : x < 5) : ∀ m K i' f', cf_ch c x m (mi c K) (mf c K) i' f' → mi c (K + m) = i' ∧ mf c (K + m) = f' ∧ mp c (K + m) x = mp c K x := by
  intro m
  induction m with
  | zero => rintro K i' f' ⟨h1, h2⟩; exact ⟨h1, h2, rfl⟩
  | succ m ih =>
    rintro K i' f' ⟨h1, h2⟩
    have h3 := mc_okf h1
    obtain ⟨b1, b2, b3⟩ := cf_keep k (mc_pos k K) (mz c K) hx h3
    rcases b3 with ⟨b4, _⟩ | ⟨_, b4⟩
    · have := h1.1
      rw [cf_ek] at b4
      rw [if_neg (by omega)] at b4
      obtain ⟨hi, hf, ho⟩ := h1
      rw [if_pos (by omega)] at b4
      omega
    · have e1 : mi c (K + 1) = (cf_nc c (mi c K)).1 := by rw [mi_s, b4]
      have e2 : mf c (K + 1) = (cf_nc c (mi c K)).2 := by rw [mf_s, b4]
      rw [← e1, ← e2] at h2
      obtain ⟨g1, g2, g3⟩ := ih (K + 1) i' f' h2
      rw [show K + (m + 1) = K + 1 + m from by omega]
      refine ⟨g1, g2, ?_⟩
      rw [g3, mp_s, if_neg]
      show ¬ cf_fr c (mi c K) (mf c K) x = true
      rw [h3]
      decide
/-- each edge out of a token's output is used by the machine, with that token -/
theorem mc_cons (k : cf_ok c) {K x i f x' j : Nat} (r : mc_real c K x) (v : cf_pos c i f) (s : cf_sl c i f x' j) (e : cf_loc c i f (cf_sv c i f x' j) = cf_loc c (mi c K) (mf c K) x) :
    ∃ K', mi c K' = i ∧ mf c K' = f ∧ cf_sv c i f x' j = x ∧ mp c K' x = K := by
  obtain ⟨i0, f0, m, a, b⟩ := cf_chL k (cf_sv_lt k v s) v
  rw [e] at a
  obtain ⟨e1, e2, e3⟩ := cf_bi_u (mc_bi k r) a
  rw [← e3, ← e1, ← e2] at b
  obtain ⟨g1, g2, g3⟩ := mc_ch k r.1 m K i f b
  exact ⟨K + m, g1, g2, e3.symm, by rw [g3, mc_rp r]⟩
end
end
section
/-! tags, and that no line is met twice under one tag -/
def mc_lx : List Nat → List Nat → Prop
  | [], [] => False
  | [], _ :: _ => True
  | _ :: _, [] => False
  | a :: s, b :: t => a < b ∨ (a = b ∧ mc_lx s t)
theorem mc_lx_i : ∀ s, ¬ mc_lx s s
  | [] => fun h => h
  | a :: s => by
    rintro (h | ⟨_, h⟩)
    · omega
    · exact mc_lx_i s h
theorem mc_lx_t : ∀ s t u, mc_lx s t → mc_lx t u → mc_lx s u
  | [], [], _ => fun h _ => h.elim
  | [], _ :: _, [] => fun _ h => h.elim
  | [], _ :: _, _ :: _ => fun _ _ => trivial
  | _ :: _, [], _ => fun h _ => h.elim
  | _ :: _, _ :: _, [] => fun _ h => h.elim
  | a :: s, b :: t, d :: u => by
    rintro (h | ⟨rfl, h⟩) (g | ⟨rfl, g⟩)
    · exact Or.inl (by omega)
    · exact Or.inl h
    · exact Or.inl g
    · exact Or.inr ⟨rfl, mc_lx_t s t u h g⟩
theorem mc_lx_a : ∀ p s t, mc_lx s t → mc_lx (p ++ s) (p ++ t)
  | [], _, _ => fun h => h
  | _ :: p, s, t => fun h => Or.inr ⟨rfl, mc_lx_a p s t h⟩
def mc_pre : List (Nat × Nat) → List Nat
  | [] => []
  | (j, r) :: t => mc_pre t ++ [j, r]
def mc_key (c : CF) (K : Nat) : List Nat := mc_pre (mg c K) ++ [mi c K]
def cf_rs (c : CF) (i : Nat) : List Nat := (cf_st c i).filter (fun j => decide (cf_kd c j = 4))
def cf_enc (c : CF) (i f : Nat) : List Nat := if f = 1 ∧ cf_kd c i = 4 then i :: cf_rs c i else cf_rs c i
section
variable {c : CF}
theorem cf_rs_2 {i j : Nat} (h : cf_st c i = j :: cf_st c j) (h2 : cf_kd c j = 2) : cf_rs c i = cf_rs c j := by
  rw [cf_rs, h, List.filter_cons_of_neg (by simp [h2])]
  rfl
theorem cf_rs_4 {i j : Nat} (h : cf_st c i = j :: cf_st c j) (h4 : cf_kd c j = 4) : cf_rs c i = j :: cf_rs c j := by
  rw [cf_rs, h, List.filter_cons_of_pos (by simp [h4])]
  rfl
theorem cf_rs_e {i j : Nat} (h : cf_st c i = cf_st c j) : cf_rs c i = cf_rs c j := by rw [cf_rs, h]; rfl
theorem cf_enc_0 (i : Nat) : cf_enc c i 0 = cf_rs c i := if_neg (by omega)
theorem cf_enc_5 {i f : Nat} (h : cf_kd c i = 5) : cf_enc c i f = cf_rs c i := if_neg (by omega)
theorem cf_enc_4 {i : Nat} (h : cf_kd c i = 4) : cf_enc c i 1 = i :: cf_rs c i := if_pos ⟨rfl, h⟩
theorem cf_enc_s (k : cf_ok c) {i f : Nat} (v : cf_pos c i f) (z : Bool) {g : List (Nat × Nat)} (hg : g.map Prod.fst = cf_enc c i f) :
    (cf_ng c i f g).map Prod.fst = cf_enc c (cf_nx c i f z).1 (cf_nx c i f z).2 := by
  rcases cf_cases k v with ⟨e, hi, hf, hk⟩ | ⟨e, hi, hf, hk⟩ | ⟨e, hi, hf, hk⟩ | ⟨e, hi, hf, hk⟩ | ⟨e, hi, hf, hk⟩ | ⟨e, hi, hf, hk⟩ | ⟨e, hi, hf, hk, hk2⟩ | ⟨e, hi, hf, hk, hk2⟩ | ⟨e, hi, hf, hk, hk2⟩ | ⟨e, hn, hf⟩ <;> simp only [cf_ng, e]
  · subst hf
    rw [cf_nx_e e, hg, cf_enc_0]
    simp only []
    rw [cf_enc_0]
    exact (cf_rs_e (cf_st_s (by omega) (by omega) (by omega))).symm
  · subst hf
    rw [cf_nx_e e, hg, cf_enc_0]
    simp only []
    rw [cf_enc_0]
    exact (cf_rs_e (cf_st_s (by omega) (by omega) (by omega))).symm
  · subst hf
    rw [hg, cf_enc_0]
    cases z with
    | false =>
      rw [cf_nx_2f e, cf_enc_0, cf_rs_2 (cf_st_c (Or.inl hk)) hk]
    | true =>
      cases ho : cf_ot c i with
      | none =>
        rw [cf_nx_2n e ho]
        obtain ⟨a1, a2, a3, a4, a5, a6⟩ := cf_cl_o k hi (Or.inl hk)
        simp only []
        rw [cf_enc_5 a3, cf_rs_2 a5 hk]
      | some m =>
        rw [cf_nx_2t e ho]
        obtain ⟨d1, d2, d3⟩ := cf_ot_s k ho
        obtain ⟨b1, b2, b3, b4, b5, b6, b7⟩ := cf_ot_3 k d1 d2
        rw [d3] at b5
        rw [cf_enc_0, cf_rs_e (j := m) (cf_st_s (by omega) (by omega) (by omega)), cf_rs_2 b5 hk]
  · subst hf
    obtain ⟨b1, b2, b3, b4, b5, b6, b7⟩ := cf_ot_3 k hi hk
    obtain ⟨a1, a2, a3, a4, a5, a6⟩ := cf_cl_o k (j := cf_op c i) (by omega) (Or.inl b3)
    rw [cf_nx_e e, hg, cf_enc_0]
    simp only []
    rw [cf_enc_5 a3, cf_rs_2 a5 b3, cf_rs_2 b5 b3]
  · subst hf
    rw [cf_nx_e e]
    simp only []
    rw [cf_enc_4 hk, List.map_cons, hg, cf_enc_0]
  · subst hf
    rw [hg, cf_enc_4 hk]
    cases z with
    | false => rw [cf_nx_5f e, cf_enc_0, cf_rs_4 (cf_st_c (Or.inr hk)) hk]
    | true =>
      obtain ⟨a1, a2, a3, a4, a5, a6⟩ := cf_cl_o k hi (Or.inr hk)
      rw [cf_nx_5t e]
      simp only []
      rw [cf_enc_5 a3, cf_rs_4 a5 hk]
  · obtain ⟨a1, a2, a3, a4, a5⟩ := cf_cl_c k hi hk
    rw [cf_nx_e e, hg, cf_enc_5 hk]
    simp only []
    rw [cf_enc_0, cf_rs_2 a5 hk2]
    refine (cf_rs_e ?_).symm
    rw [cf_st_5 hk, a5, List.tail_cons]
  · obtain ⟨a1, a2, a3, a4, a5⟩ := cf_cl_c k hi hk
    rw [cf_enc_5 hk, cf_rs_4 a5 hk2] at hg
    rw [cf_nx_e e]
    simp only []
    rw [cf_enc_4 hk2, List.map_cons, List.map_tail, hg]
    rfl
  · obtain ⟨a1, a2, a3, a4, a5⟩ := cf_cl_c k hi hk
    rw [cf_enc_5 hk, cf_rs_4 a5 hk2] at hg
    rw [cf_nx_e e]
    simp only []
    rw [cf_enc_0, List.map_tail, hg, List.tail_cons]
    refine (cf_rs_e ?_).symm
    rw [cf_st_5 hk, a5, List.tail_cons]
  · rw [show cf_nx c i f z = (i, f) from cf_nx_e e, hg]
theorem mc_tag (k : cf_ok c) : ∀ K, (mg c K).map Prod.fst = cf_enc c (mi c K) (mf c K)
  | 0 => by
    show [] = cf_enc c 0 0
    rw [cf_enc_0]; rfl
  | K + 1 => cf_enc_s k (mc_pos k K) (mz c K) (mc_tag k K)
/-- at a close of a loop the tag is a round of that loop -/
theorem mc_tag7 (k : cf_ok c) {K : Nat} (h : me c K = 7 ∨ me c K = 8) : ∃ r t, mg c K = (cf_op c (mi c K), r) :: t := by
  have h1 := mc_tag k K
  rcases cf_cases k (mc_pos k K) with ⟨e, _⟩ | ⟨e, _⟩ | ⟨e, _⟩ | ⟨e, _⟩ | ⟨e, _⟩ | ⟨e, _⟩ | ⟨e, _⟩ | ⟨e, hi, hf, hk, hk2⟩ | ⟨e, hi, hf, hk, hk2⟩ | ⟨e, _⟩ <;> try (rw [me, e] at h; omega)
  · obtain ⟨a1, a2, a3, a4, a5⟩ := cf_cl_c k hi hk
    rw [cf_enc_5 hk, cf_rs_4 a5 hk2] at h1
    cases e2 : mg c K with
    | nil => rw [e2] at h1; cases h1
    | cons a t =>
      rw [e2, List.map_cons] at h1
      obtain ⟨a1, a2⟩ := a
      have := (List.cons.inj h1).1
      exact ⟨a2, t, by rw [← this]⟩
  · obtain ⟨a1, a2, a3, a4, a5⟩ := cf_cl_c k hi hk
    rw [cf_enc_5 hk, cf_rs_4 a5 hk2] at h1
    cases e2 : mg c K with
    | nil => rw [e2] at h1; cases h1
    | cons a t =>
      rw [e2, List.map_cons] at h1
      obtain ⟨a1, a2⟩ := a
      have := (List.cons.inj h1).1
      exact ⟨a2, t, by rw [← this]⟩
theorem mc_lx_1 {p : List Nat} {a b : Nat} (h : a < b) : mc_lx (p ++ [a]) (p ++ [b]) := mc_lx_a p _ _ (Or.inl h)
theorem mc_key_lt (k : cf_ok c) {K : Nat} (hK : mi c K < cf_n c) : mc_lx (mc_key c K) (mc_key c (K + 1)) := by
  rw [mc_key, mc_key, mi_s, mg_s]
  have h7 := mc_tag7 k (K := K)
  rw [me] at h7
  rcases cf_cases k (mc_pos k K) with ⟨e, hi, hf, hk⟩ | ⟨e, hi, hf, hk⟩ | ⟨e, hi, hf, hk⟩ | ⟨e, hi, hf, hk⟩ | ⟨e, hi, hf, hk⟩ | ⟨e, hi, hf, hk⟩ | ⟨e, hi, hf, hk, hk2⟩ | ⟨e, hi, hf, hk, hk2⟩ | ⟨e, hi, hf, hk, hk2⟩ | ⟨e, hn, hf⟩ <;> simp only [cf_ng, e]
  · rw [cf_nx_e e]; exact mc_lx_1 (Nat.lt_succ_self _)
  · rw [cf_nx_e e]; exact mc_lx_1 (Nat.lt_succ_self _)
  · cases mz c K with
    | false => rw [cf_nx_2f e]; exact mc_lx_1 (Nat.lt_succ_self _)
    | true =>
      cases ho : cf_ot c (mi c K) with
      | none =>
        rw [cf_nx_2n e ho]
        exact mc_lx_1 (cf_cl_o k hi (Or.inl hk)).1
      | some m =>
        rw [cf_nx_2t e ho]
        obtain ⟨d1, d2, d3⟩ := cf_ot_s k ho
        have b := (cf_ot_3 k d1 d2).1
        rw [d3] at b
        exact mc_lx_1 (by simp only []; omega)
  · rw [cf_nx_e e]
    exact mc_lx_1 (cf_ot_3 k hi hk).2.2.2.2.2.1
  · rw [cf_nx_e e, mc_pre, List.append_assoc]
    exact mc_lx_a _ _ _ (Or.inr ⟨rfl, trivial⟩)
  · cases mz c K with
    | false => rw [cf_nx_5f e]; exact mc_lx_1 (Nat.lt_succ_self _)
    | true =>
      rw [cf_nx_5t e]
      exact mc_lx_1 (cf_cl_o k hi (Or.inr hk)).1
  · rw [cf_nx_e e]; exact mc_lx_1 (Nat.lt_succ_self _)
  · obtain ⟨r, t, e2⟩ := h7 (Or.inl e)
    rw [cf_nx_e e, e2]
    show mc_lx (mc_pre t ++ [cf_op c (mi c K), r] ++ [mi c K]) (mc_pre t ++ [cf_op c (mi c K), r + 1] ++ [cf_op c (mi c K)])
    rw [List.append_assoc, List.append_assoc]
    exact mc_lx_a _ _ _ (Or.inr ⟨rfl, Or.inl (Nat.lt_succ_self _)⟩)
  · obtain ⟨r, t, e2⟩ := h7 (Or.inr e)
    rw [cf_nx_e e, e2]
    show mc_lx (mc_pre t ++ [cf_op c (mi c K), r] ++ [mi c K]) (mc_pre t ++ [mi c K + 1])
    rw [List.append_assoc]
    exact mc_lx_a _ _ _ (Or.inl (by have := (cf_cl_c k hi hk).1; omega))
  · omega
theorem mc_halt (k : cf_ok c) {K : Nat} (h : cf_n c ≤ mi c K) : ∀ d, mi c (K + d) = mi c K ∧ mf c (K + d) = mf c K ∧ mg c (K + d) = mg c K ∧ mv c (K + d) = mv c K ∧ mt c (K + d) = mt c K ∧ mp c (K + d) = mp c K := by
  intro d
  induction d with
  | zero => exact ⟨rfl, rfl, rfl, rfl, rfl, rfl⟩
  | succ d ih =>
    obtain ⟨a1, a2, a3, a4, a5, a6⟩ := ih
    have e : cf_ek c (mi c (K + d)) (mf c (K + d)) = 9 := cf_ek_9 (by omega)
    have hr : ∀ x, mr c (K + d) x = false := fun x => cf_fr_e e
    rw [show K + (d + 1) = K + d + 1 from rfl]
    refine ⟨?_, ?_, ?_, ?_, ?_, ?_⟩
    · rw [mi_s, cf_nx_e e]; exact a1
    · rw [mf_s, cf_nx_e e]; exact a2
    · rw [mg_s]; simp only [cf_ng, e]; exact a3
    · funext x; rw [mv_s, hr x, if_neg (by decide), a4]
    · funext x; rw [mt_s, hr x, if_neg (by decide), a5]
    · funext x; rw [mp_s, hr x, if_neg (by decide), a6]
theorem mc_nohalt (k : cf_ok c) {K d : Nat} (h : mi c (K + d) < cf_n c) : mi c K < cf_n c := by
  by_cases g : cf_n c ≤ mi c K
  · have := (mc_halt k g d).1
    omega
  · omega
theorem mc_key_le (k : cf_ok c) {K : Nat} : ∀ d, mi c (K + d) < cf_n c → mc_lx (mc_key c K) (mc_key c (K + d + 1)) := by
  intro d
  induction d with
  | zero => intro h; exact mc_key_lt k h
  | succ d ih =>
    intro h
    exact mc_lx_t _ _ _ (ih (mc_nohalt k (d := 1) h)) (mc_key_lt k h)
theorem mc_uniq (k : cf_ok c) {K K' : Nat} (h : mi c K < cf_n c) (h' : mi c K' < cf_n c) (e : mi c K = mi c K') (eg : mg c K = mg c K') : K = K' := by
  have key : mc_key c K = mc_key c K' := by rw [mc_key, mc_key, e, eg]
  by_cases g : K < K'
  · exfalso
    have h1 := mc_key_le k (K := K) (K' - K - 1) (by
      apply mc_nohalt k (d := 1)
      rw [show K + (K' - K - 1) + 1 = K' from by omega]
      exact h')
    rw [show K + (K' - K - 1) + 1 = K' from by omega, key] at h1
    exact mc_lx_i _ h1
  · by_cases g' : K' < K
    · exfalso
      have h1 := mc_key_le k (K := K') (K - K' - 1) (by
        apply mc_nohalt k (d := 1)
        rw [show K' + (K - K' - 1) + 1 = K from by omega]
        exact h)
      rw [show K' + (K - K' - 1) + 1 = K from by omega, key] at h1
      exact mc_lx_i _ h1
    · omega
/-! slots of firings -/
def mc_sl (c : CF) (K x j : Nat) : Prop := cf_sl c (mi c K) (mf c K) x j
def mc_sv (c : CF) (K x j : Nat) : Nat := cf_sv c (mi c K) (mf c K) x j
def mc_src (c : CF) (K x j : Nat) : Nat × Nat := (mp c K (mc_sv c K x j), mc_sv c K x j)
def mc_nd (c : CF) (K x : Nat) : Nat := cf_nd c (mi c K) (mf c K) x
theorem mc_ni (k : cf_ok c) {K x : Nat} (h : mr c K x = true) : mi c K < cf_n c := by
  by_cases g : mi c K < cf_n c
  · exact g
  · rw [mr, cf_fr_e (cf_ek_9 (by omega))] at h
    cases h
theorem mc_u (k : cf_ok c) {K K' x x' j : Nat} (h : mr c K x = true) (h' : mr c K' x' = true) (s : mc_sl c K x j) (s' : mc_sl c K' x' j) (e : mc_nd c K x = mc_nd c K' x') (eg : mg c K = mg c K') : K = K' ∧ x = x' := by
  obtain ⟨e1, e2, _⟩ := cf_nd_u k (mc_pos k K) (mc_pos k K') (mc_ni k h) (mc_ni k h') s s' e
  exact ⟨mc_uniq k (mc_ni k h) (mc_ni k h') e1 eg, e2⟩
theorem mc_sl_r (k : cf_ok c) {K x j : Nat} (h : mc_sl c K x j) (hi : mi c K < cf_n c) : mr c K x = true := by
  rcases cf_cases k (mc_pos k K) with ⟨e, _⟩ | ⟨e, _⟩ | ⟨e, _⟩ | ⟨e, _⟩ | ⟨e, _⟩ | ⟨e, _⟩ | ⟨e, _⟩ | ⟨e, _⟩ | ⟨e, _⟩ | ⟨e, _⟩ <;> have h1 := (cf_sl_e e).mp h <;> simp only [] at h1 <;> rw [mr, cf_fr_e e]
  · simp only [h1.1, beq_self_eq_true]
  · simp only [h1.1, beq_self_eq_true]
  · simp only [h1.1, decide_true]
  · simp only [h1.1, decide_true]
  · simp only [h1.1, decide_true]
  · simp only [h1.1, decide_true]
  · simp only [h1.1, decide_true]
  · simp only [h1.1, decide_true]
  · omega
theorem mc_rx (k : cf_ok c) {K x : Nat} (h : mr c K x = true) : x < 5 := by
  have hi := mc_ni k h
  rw [mr] at h
  rcases cf_cases k (mc_pos k K) with ⟨e, _, _, hk⟩ | ⟨e, _, _, hk⟩ | ⟨e, _⟩ | ⟨e, _⟩ | ⟨e, _⟩ | ⟨e, _⟩ | ⟨e, _⟩ | ⟨e, _⟩ | ⟨e, _⟩ | ⟨e, _⟩ <;> rw [cf_fr_e e] at h
  · have := (k.1.2 _ hi).2.2.1 (by omega) (by omega)
    have h1 : x = cf_va c (mi c K) := by simpa using h
    omega
  · have := (k.1.2 _ hi).2.2.1 (by omega) (by omega)
    have h1 : x = cf_va c (mi c K) := by simpa using h
    omega
  · simpa using h
  · cases h
  · simpa using h
  · simpa using h
  · simpa using h
  · simpa using h
  · simpa using h
  · cases h
end
end
section
/-! counting: how many firings a set of tokens can make ready, or wait -/
theorem df_pig {α : Type} : ∀ (l m : List α), l.Nodup → (∀ a, a ∈ l → a ∈ m) → l.length ≤ m.length
  | [], _, _, _ => Nat.zero_le _
  | a :: l, m, h, hs => by
    obtain ⟨s, t, rfl⟩ := List.append_of_mem (hs a (List.mem_cons_self ..))
    have h1 : l.length ≤ (s ++ t).length := df_pig l (s ++ t) (List.nodup_cons.mp h).2 (by
      intro b hb
      have hne : b ≠ a := by
        rintro rfl
        exact (List.nodup_cons.mp h).1 hb
      have h2 := hs b (List.mem_cons_of_mem _ hb)
      rw [List.mem_append, List.mem_cons] at h2
      rw [List.mem_append]
      rcases h2 with h2 | h2 | h2
      · exact Or.inl h2
      · exact absurd h2 hne
      · exact Or.inr h2)
    rw [List.length_append] at h1
    rw [List.length_append, List.length_cons, List.length_cons]
    omega
theorem df_map {α β : Type} (f : α → β) : ∀ (l : List α), l.Nodup → (∀ a, a ∈ l → ∀ b, b ∈ l → f a = f b → a = b) → (l.map f).Nodup
  | [], _, _ => List.nodup_nil
  | a :: l, h, hf => by
    rw [List.map_cons, List.nodup_cons]
    refine ⟨?_, df_map f l (List.nodup_cons.mp h).2 fun x hx y hy => hf x (List.mem_cons_of_mem _ hx) y (List.mem_cons_of_mem _ hy)⟩
    intro hm
    obtain ⟨b, hb, e⟩ := List.mem_map.mp hm
    have := hf b (List.mem_cons_of_mem _ hb) a (List.mem_cons_self ..) e
    rw [this] at hb
    exact (List.nodup_cons.mp h).1 hb
theorem df_dd {α : Type} : ∀ (l : List α), ∃ U : List α, U.Nodup ∧ (∀ a, a ∈ U ↔ a ∈ l) ∧ U.length ≤ l.length
  | [] => ⟨[], List.nodup_nil, fun _ => Iff.rfl, Nat.le_refl _⟩
  | a :: l => by
    obtain ⟨U, h1, h2, h3⟩ := df_dd l
    by_cases g : a ∈ U
    · refine ⟨U, h1, fun b => ?_, by rw [List.length_cons]; omega⟩
      rw [List.mem_cons, h2]
      constructor
      · exact Or.inr
      · rintro (rfl | h)
        · exact (h2 _).mp g
        · exact h
    · refine ⟨a :: U, List.nodup_cons.mpr ⟨g, h1⟩, fun b => ?_, by rw [List.length_cons, List.length_cons]; omega⟩
      rw [List.mem_cons, List.mem_cons, h2]
theorem df_flt {α : Type} (p : α → Bool) : ∀ (l : List α), (l.filter p).length + (l.filter (fun a => !p a)).length = l.length
  | [] => rfl
  | a :: l => by
    have := df_flt p l
    cases h : p a with
    | true =>
      rw [List.filter_cons_of_pos h, List.filter_cons_of_neg (by simp [h]), List.length_cons, List.length_cons]
      omega
    | false =>
      rw [List.filter_cons_of_neg (by simp [h]), List.filter_cons_of_pos (by simp [h]), List.length_cons, List.length_cons]
      omega
def df_prod {α β : Type} : List α → List β → List (α × β)
  | [], _ => []
  | a :: l, m => m.map (fun b => (a, b)) ++ df_prod l m
theorem df_prod_l {α β : Type} : ∀ (l : List α) (m : List β), (df_prod l m).length = l.length * m.length
  | [], m => by rw [df_prod, List.length_nil, List.length_nil, Nat.zero_mul]
  | a :: l, m => by
    rw [df_prod, List.length_append, List.length_map, df_prod_l l m, List.length_cons, Nat.succ_mul, Nat.add_comm]
theorem df_prod_m {α β : Type} {a : α} {b : β} : ∀ (l : List α) (m : List β), a ∈ l → b ∈ m → (a, b) ∈ df_prod l m
  | [], _, h, _ => nomatch h
  | x :: l, m, h, h' => by
    rw [df_prod, List.mem_append]
    rcases List.mem_cons.mp h with rfl | h
    · exact Or.inl (List.mem_map.mpr ⟨b, h', rfl⟩)
    · exact Or.inr (df_prod_m l m h h')
section
variable {c : CF}
theorem mp_mono (k : cf_ok c) {x : Nat} (hx : x < 5) {K : Nat} : ∀ d, mp c K x ≤ mp c (K + d) x := by
  intro d
  induction d with
  | zero => exact Nat.le_refl _
  | succ d ih =>
    rw [show K + (d + 1) = K + d + 1 from rfl, mp_s]
    split
    · have := (mc_M1 k hx K).1
      omega
    · exact ih
/-- where y is fired anew, an older token of y isn't met any more -/
theorem mp_new (k : cf_ok c) {y K K' : Nat} (hy : y < 5) (h : mr c K y = true) (hK : K < K') : mp c K y < mp c K' y := by
  have h1 := mp_mono k hy (K := K + 1) (K' - (K + 1))
  rw [show K + 1 + (K' - (K + 1)) = K' from by omega, mp_s, if_pos h] at h1
  have := (mc_M1 k hy K).1
  omega
theorem mp_inj (k : cf_ok c) {y K K' : Nat} (hy : y < 5) (h : mr c K y = true) (h' : mr c K' y = true) (e : mp c K y = mp c K' y) : K = K' := by
  by_cases g : K < K'
  · have := mp_new k hy h g
    omega
  · by_cases g' : K' < K
    · have := mp_new k hy h' g'
      omega
    · omega
theorem mr_all (k : cf_ok c) {K x y : Nat} (h : mr c K x = true) (he : 1 < me c K) (hy : y < 5) : mr c K y = true := by
  rw [mr] at h ⊢
  rw [me] at he
  rcases cf_cases k (mc_pos k K) with ⟨e, _⟩ | ⟨e, _⟩ | ⟨e, _⟩ | ⟨e, _⟩ | ⟨e, _⟩ | ⟨e, _⟩ | ⟨e, _⟩ | ⟨e, _⟩ | ⟨e, _⟩ | ⟨e, _⟩ <;> rw [cf_fr_e e] at h ⊢
  · omega
  · omega
  · simpa using hy
  · cases h
  · simpa using hy
  · simpa using hy
  · simpa using hy
  · simpa using hy
  · simpa using hy
  · cases h
/-- a firing has an input; other than on a line one of its own variable -/
theorem mc_sl_x (k : cf_ok c) {K x : Nat} (h : mr c K x = true) : ∃ j, mc_sl c K x j ∧ (1 < me c K → mc_sv c K x j = x) := by
  rw [mr] at h
  rcases cf_cases k (mc_pos k K) with ⟨e, _⟩ | ⟨e, _⟩ | ⟨e, _⟩ | ⟨e, _⟩ | ⟨e, _⟩ | ⟨e, _⟩ | ⟨e, _⟩ | ⟨e, _⟩ | ⟨e, _⟩ | ⟨e, _⟩ <;> rw [cf_fr_e e] at h
  · exact ⟨0, (cf_sl_e e).mpr ⟨by simpa using h, rfl⟩, fun g => by rw [me, e] at g; omega⟩
  · exact ⟨0, (cf_sl_e e).mpr ⟨by simpa using h, by omega⟩, fun g => by rw [me, e] at g; omega⟩
  · exact ⟨0, (cf_sl_e e).mpr ⟨by simpa using h, by omega⟩, fun _ => by simp only [mc_sv, cf_sv, e, if_true]⟩
  · cases h
  · exact ⟨0, (cf_sl_e e).mpr ⟨by simpa using h, rfl⟩, fun _ => by simp only [mc_sv, cf_sv, e]⟩
  · exact ⟨0, (cf_sl_e e).mpr ⟨by simpa using h, by omega⟩, fun _ => by simp only [mc_sv, cf_sv, e, if_true]⟩
  · exact ⟨0, (cf_sl_e e).mpr ⟨by simpa using h, rfl⟩, fun _ => by simp only [mc_sv, cf_sv, e]⟩
  · exact ⟨1, (cf_sl_e e).mpr ⟨by simpa using h, rfl⟩, fun _ => by simp only [mc_sv, cf_sv, e]⟩
  · exact ⟨0, (cf_sl_e e).mpr ⟨by simpa using h, rfl⟩, fun _ => by simp only [mc_sv, cf_sv, e]⟩
  · cases h
theorem mc_svl (k : cf_ok c) {K x j : Nat} (h : mc_sl c K x j) : mc_sv c K x j < 5 := cf_sv_lt k (mc_pos k K) h
/-- every token of D has its own sources in D -/
def df_dc (c : CF) (D : List (Nat × Nat)) : Prop := ∀ K x, (K + 1, x) ∈ D → mr c K x = true ∧ ∀ j, mc_sl c K x j → mc_src c K x j ∈ D
def df_en (c : CF) (T : Nat × Nat) : Bool := decide (mf c T.1 = 1 ∧ cf_kd c (mi c T.1) = 4)
theorem df_enter (k : cf_ok c) {D : List (Nat × Nat)} (dc : df_dc c D) : ∀ N K x, K < N → (K, x) ∈ D → ∀ t, t <:+ mg c K → t ≠ [] → ∃ E, E ∈ D ∧ df_en c E = true ∧ mg c E.1 = t := by
  intro N
  induction N with
  | zero => intro K x h; omega
  | succ N ih =>
    intro K x hK hD t ht hne
    cases K with
    | zero =>
      have : t = [] := List.suffix_nil.mp ht
      exact absurd this hne
    | succ K =>
      obtain ⟨hr, hs⟩ := dc K x hD
      obtain ⟨j, hj, _⟩ := mc_sl_x k hr
      have hsrc := hs j hj
      obtain ⟨m1, m2, m3, m4, m5, m6⟩ := mc_M1 k (mc_svl k hj) K
      have IH : ∀ t, t <:+ mg c K → t ≠ [] → ∃ E, E ∈ D ∧ df_en c E = true ∧ mg c E.1 = t := by
        intro t ht hne
        refine ih _ _ (by omega) hsrc t ?_ hne
        rw [m5]; exact ht
      have h7 := mc_tag7 k (K := K)
      rw [mg_s] at ht
      have hpos := mc_pos k K
      rcases cf_cases k hpos with ⟨e, _⟩ | ⟨e, _⟩ | ⟨e, _⟩ | ⟨e, _⟩ | ⟨e, hi, hf, hk⟩ | ⟨e, _⟩ | ⟨e, _⟩ | ⟨e, hi, hf, hk, hk2⟩ | ⟨e, hi, hf, hk, hk2⟩ | ⟨e, _⟩ <;> simp only [cf_ng, e] at ht <;> try exact IH t ht hne
      · rcases List.suffix_cons_iff.mp ht with h | h
        · refine ⟨(K + 1, x), hD, ?_, ?_⟩
          · simp only [df_en, mi_s, mf_s, cf_nx_e e, hk, and_self, decide_true]
          · simp only [mg_s, cf_ng, e]; exact h.symm
        · exact IH t h hne
      · obtain ⟨r, t0, e2⟩ := h7 (Or.inl e)
        rcases List.suffix_cons_iff.mp ht with h | h
        · refine ⟨(K + 1, x), hD, ?_, ?_⟩
          · simp only [df_en, mi_s, mf_s, cf_nx_e e, hk2, and_self, decide_true]
          · simp only [mg_s, cf_ng, e]; exact h.symm
        · exact IH t (List.IsSuffix.trans h (List.tail_suffix _)) hne
      · exact IH t (List.IsSuffix.trans ht (List.tail_suffix _)) hne
/-- the tags under which lines can be fired are few -/
theorem df_tags (k : cf_ok c) {D : List (Nat × Nat)} (dc : df_dc c D) : ∃ U : List (List (Nat × Nat)), 2 * U.length ≤ D.length + 1 ∧ ∀ T, T ∈ D → df_en c T = false → mg c T.1 ∈ U := by
  obtain ⟨U, h1, h2, h3⟩ := df_dd ((D.filter (fun T => !df_en c T)).map (fun T => mg c T.1))
  refine ⟨U, ?_, ?_⟩
  · have h4 := df_pig U ([] :: (D.filter (df_en c)).map (fun T => mg c T.1)) h1 (by
      intro t ht
      by_cases hne : t = []
      · rw [hne]; exact List.mem_cons_self ..
      · refine List.mem_cons_of_mem _ ?_
        obtain ⟨T, hT, e⟩ := List.mem_map.mp ((h2 t).mp ht)
        have hD := (List.mem_filter.mp hT).1
        obtain ⟨E, a1, a2, a3⟩ := df_enter k dc (T.1 + 1) T.1 T.2 (by omega) hD t (by rw [← e]; exact List.suffix_refl _) hne
        exact List.mem_map.mpr ⟨E, List.mem_filter.mpr ⟨a1, a2⟩, a3⟩)
    rw [List.length_cons, List.length_map] at h4
    rw [List.length_map] at h3
    have h5 := df_flt (df_en c) D
    omega
  · intro T hT he
    rw [h2]
    exact List.mem_map.mpr ⟨T, List.mem_filter.mpr ⟨hT, by rw [he]; rfl⟩, rfl⟩
theorem df_op (k : cf_ok c) {D G : List (Nat × Nat)} (dc : df_dc c D) (hD : D.length ≤ 405) (hG : G.Nodup)
    (h : ∀ T, T ∈ G → ∃ K, T.1 = K + 1 ∧ mr c K T.2 = true ∧ me c K ≤ 1 ∧ ∃ j, mc_sl c K T.2 j ∧ mc_src c K T.2 j ∈ D) : G.length ≤ 4060 := by
  obtain ⟨U, h1, h2⟩ := df_tags k dc
  have hx : ∀ T, T ∈ G → ∃ K, T.1 = K + 1 ∧ mi c K < cf_n c ∧ T.2 = cf_va c (mi c K) ∧ mg c K ∈ U := by
    intro T hT
    obtain ⟨K, e1, hr, he, j, hj, hs⟩ := h T hT
    have hi := mc_ni k hr
    have hf : mf c K = 0 ∧ T.2 = cf_va c (mi c K) := by
      rw [me] at he
      rw [mr] at hr
      rcases cf_cases k (mc_pos k K) with ⟨e, _, hf, hk⟩ | ⟨e, _, hf, hk⟩ | ⟨e, _⟩ | ⟨e, _⟩ | ⟨e, _⟩ | ⟨e, _⟩ | ⟨e, _⟩ | ⟨e, _⟩ | ⟨e, _⟩ | ⟨e, _⟩ <;> try omega
      · rw [cf_fr_e e] at hr
        exact ⟨hf, by simpa using hr⟩
      · rw [cf_fr_e e] at hr
        exact ⟨hf, by simpa using hr⟩
    refine ⟨K, e1, hi, hf.2, ?_⟩
    have hy := mc_svl k hj
    obtain ⟨m1, m2, m3, m4, m5, m6⟩ := mc_M1 k hy K
    rw [← m5]
    refine h2 _ hs ?_
    cases ee : df_en c (mc_src c K T.2 j) with
    | false => rfl
    | true =>
      exfalso
      have ee2 : mf c (mp c K (mc_sv c K T.2 j)) = 1 ∧ cf_kd c (mi c (mp c K (mc_sv c K T.2 j))) = 4 := of_decide_eq_true ee
      by_cases g : mp c K (mc_sv c K T.2 j) = K
      · rw [g] at ee2
        omega
      · have hi2 : mi c (mp c K (mc_sv c K T.2 j)) < cf_n c := by
          apply mc_nohalt k (d := K - mp c K (mc_sv c K T.2 j))
          rw [show mp c K (mc_sv c K T.2 j) + (K - mp c K (mc_sv c K T.2 j)) = K from by omega]
          exact hi
        have e5 := (cf_ek_4 hi2 ee2.2).2
        rw [← ee2.1] at e5
        have hr2 : mr c (mp c K (mc_sv c K T.2 j)) (mc_sv c K T.2 j) = true := by
          rw [mr, cf_fr_e e5]
          simpa using hy
        have := mp_new k hy hr2 (K' := K) (by omega)
        rw [mc_rp m2] at this
        omega
  have hm : (G.map (fun T => (mi c (T.1 - 1), mg c (T.1 - 1)))).Nodup := by
    apply df_map _ _ hG
    intro T hT T' hT' e
    obtain ⟨K, e1, hi, hv, hu⟩ := hx T hT
    obtain ⟨K', e1', hi', hv', hu'⟩ := hx T' hT'
    rw [e1, e1', Nat.add_sub_cancel, Nat.add_sub_cancel] at e
    have e2 := congrArg Prod.fst e
    have e3 := congrArg Prod.snd e
    have := mc_uniq k hi hi' e2 e3
    subst this
    exact Prod.ext (by rw [e1, e1']) (by rw [hv, hv'])
  have hl := df_pig _ (df_prod (List.range 20) U) hm (by
    intro p hp
    obtain ⟨T, hT, rfl⟩ := List.mem_map.mp hp
    obtain ⟨K, e1, hi, hv, hu⟩ := hx T hT
    rw [e1, Nat.add_sub_cancel]
    exact df_prod_m _ _ (List.mem_range.mpr (Nat.lt_of_lt_of_le hi k.1.1)) hu)
  rw [List.length_map, df_prod_l, List.length_range] at hl
  omega
theorem df_st (k : cf_ok c) {D G : List (Nat × Nat)} (hG : G.Nodup)
    (h : ∀ T, T ∈ G → ∃ K, T.1 = K + 1 ∧ mr c K T.2 = true ∧ 1 < me c K ∧ ∀ j, mc_sl c K T.2 j → mc_src c K T.2 j ∈ D) : G.length ≤ D.length := by
  have hm : (G.map (fun T => (mp c (T.1 - 1) T.2, T.2))).Nodup := by
    apply df_map _ _ hG
    intro T hT T' hT' e
    obtain ⟨K, e1, hr, he, _⟩ := h T hT
    obtain ⟨K', e1', hr', he', _⟩ := h T' hT'
    rw [e1, e1', Nat.add_sub_cancel, Nat.add_sub_cancel] at e
    have e2 := congrArg Prod.fst e
    have e3 : T.2 = T'.2 := congrArg (fun z => z.2) e
    simp only [] at e2
    rw [← e3] at e2 hr'
    have := mp_inj k (mc_rx k hr) hr hr' e2
    subst this
    exact Prod.ext (by rw [e1, e1']) e3
  have hl := df_pig _ D hm (by
    intro p hp
    obtain ⟨T, hT, rfl⟩ := List.mem_map.mp hp
    obtain ⟨K, e1, hr, he, hs⟩ := h T hT
    obtain ⟨j, hj, hv⟩ := mc_sl_x k hr
    have := hs j hj
    rw [mc_src, hv he] at this
    simp only [e1, Nat.add_sub_cancel]
    exact this)
  rw [List.length_map] at hl
  exact hl
theorem df_ready (k : cf_ok c) {D G : List (Nat × Nat)} (dc : df_dc c D) (hD : D.length ≤ 405) (hG : G.Nodup)
    (h : ∀ T, T ∈ G → ∃ K, T.1 = K + 1 ∧ mr c K T.2 = true ∧ ∀ j, mc_sl c K T.2 j → mc_src c K T.2 j ∈ D) : G.length ≤ 4465 := by
  have h1 := df_flt (fun T => decide (me c (T.1 - 1) ≤ 1)) G
  have h2 := df_op k dc hD (G := G.filter (fun T => decide (me c (T.1 - 1) ≤ 1))) (List.Pairwise.filter _ hG) (by
    intro T hT
    obtain ⟨a, b⟩ := List.mem_filter.mp hT
    obtain ⟨K, e1, hr, hs⟩ := h T a
    obtain ⟨j, hj, _⟩ := mc_sl_x k hr
    simp only [e1, Nat.add_sub_cancel, decide_eq_true_eq] at b
    exact ⟨K, e1, hr, b, j, hj, hs j hj⟩)
  have h3 := df_st k (D := D) (G := G.filter (fun T => !decide (me c (T.1 - 1) ≤ 1))) (List.Pairwise.filter _ hG) (by
    intro T hT
    obtain ⟨a, b⟩ := List.mem_filter.mp hT
    obtain ⟨K, e1, hr, hs⟩ := h T a
    simp only [e1, Nat.add_sub_cancel, Bool.not_eq_true', decide_eq_false_iff_not] at b
    exact ⟨K, e1, hr, by omega, hs⟩)
  omega
theorem df_ch (k : cf_ok c) {D G : List (Nat × Nat)} (hG : G.Nodup)
    (h : ∀ T, T ∈ G → ∃ K, T.1 = K + 1 ∧ mr c K T.2 = true ∧ 1 < me c K ∧ ∃ j, mc_sl c K T.2 j ∧ mc_src c K T.2 j ∈ D) : G.length ≤ D.length * 5 := by
  have hq : ∀ T, ∃ y, T ∈ G → y < 5 ∧ (mp c (T.1 - 1) y, y) ∈ D := by
    intro T
    by_cases g : T ∈ G
    · obtain ⟨K, e1, hr, he, j, hj, hs⟩ := h T g
      refine ⟨mc_sv c K T.2 j, fun _ => ⟨mc_svl k hj, ?_⟩⟩
      rw [e1, Nat.add_sub_cancel]
      exact hs
    · exact ⟨0, fun z => absurd z g⟩
  have hch : ∃ y : Nat × Nat → Nat, ∀ T, T ∈ G → y T < 5 ∧ (mp c (T.1 - 1) (y T), y T) ∈ D := ⟨fun T => (hq T).choose, fun T => (hq T).choose_spec⟩
  obtain ⟨y, hy⟩ := hch
  have hm : (G.map (fun T => ((mp c (T.1 - 1) (y T), y T), T.2))).Nodup := by
    apply df_map _ _ hG
    intro T hT T' hT' e
    obtain ⟨K, e1, hr, he, _⟩ := h T hT
    obtain ⟨K', e1', hr', he', _⟩ := h T' hT'
    have y1 := (hy T hT).1
    have e2 : mp c (T.1 - 1) (y T) = mp c (T'.1 - 1) (y T') := congrArg (fun z => z.1.1) e
    have e3 : y T = y T' := congrArg (fun z => z.1.2) e
    have e4 : T.2 = T'.2 := congrArg (fun z => z.2) e
    rw [← e3, e1, e1', Nat.add_sub_cancel, Nat.add_sub_cancel] at e2
    have := mp_inj k y1 (mr_all k hr he y1) (mr_all k hr' he' y1) e2
    subst this
    exact Prod.ext (by rw [e1, e1']) e4
  have hl := df_pig _ (df_prod D (List.range 5)) hm (by
    intro p hp
    obtain ⟨T, hT, rfl⟩ := List.mem_map.mp hp
    obtain ⟨K, e1, hr, he, _⟩ := h T hT
    exact df_prod_m _ _ (hy T hT).2 (List.mem_range.mpr (mc_rx k hr)))
  rw [List.length_map, df_prod_l, List.length_range] at hl
  exact hl
theorem df_wait (k : cf_ok c) {D G : List (Nat × Nat)} (dc : df_dc c D) (hD : D.length ≤ 405) (hG : G.Nodup)
    (h : ∀ T, T ∈ G → ∃ K, T.1 = K + 1 ∧ mr c K T.2 = true ∧ ∃ j, mc_sl c K T.2 j ∧ mc_src c K T.2 j ∈ D) : G.length ≤ 6085 := by
  have h1 := df_flt (fun T => decide (me c (T.1 - 1) ≤ 1)) G
  have h2 := df_op k dc hD (G := G.filter (fun T => decide (me c (T.1 - 1) ≤ 1))) (List.Pairwise.filter _ hG) (by
    intro T hT
    obtain ⟨a, b⟩ := List.mem_filter.mp hT
    obtain ⟨K, e1, hr, hs⟩ := h T a
    simp only [e1, Nat.add_sub_cancel, decide_eq_true_eq] at b
    exact ⟨K, e1, hr, b, hs⟩)
  have h3 := df_ch k (D := D) (G := G.filter (fun T => !decide (me c (T.1 - 1) ≤ 1))) (List.Pairwise.filter _ hG) (by
    intro T hT
    obtain ⟨a, b⟩ := List.mem_filter.mp hT
    obtain ⟨K, e1, hr, hs⟩ := h T a
    simp only [e1, Nat.add_sub_cancel, Bool.not_eq_true', decide_eq_false_iff_not] at b
    exact ⟨K, e1, hr, by omega, hs⟩)
  omega
end
end
section
/-! the firings up to a step; what a run in any order has done -/
def mc_new (c : CF) (K : Nat) : List (Nat × Nat) := ([4, 3, 2, 1, 0].filter (fun x => mr c K x)).map (fun x => (K + 1, x))
def mc_fl (c : CF) : Nat → List (Nat × Nat)
  | 0 => []
  | K + 1 => mc_new c K ++ mc_fl c K
def mc_cnt (c : CF) (K : Nat) : Nat := (mc_fl c K).length
def mc_ct (c : CF) (K t : Nat) : Nat := ((mc_fl c K).filter (fun T => decide (mt c T.1 T.2 = t))).length
def df_A (c : CF) (D : List (Nat × Nat)) (T : Nat × Nat) (pr : List (Nat × Nat)) (K x j : Nat) : Prop :=
  mr c K x = true ∧ mc_sl c K x j ∧ (mc_src c K x j ∈ D ∨ (mc_src c K x j = T ∧ (mc_nd c K x, j) ∈ pr))
def df_pl (c : CF) (A : Nat → Nat → Nat → Prop) (dn ρ : List (Nat × Nat)) : Prop :=
  (dn ++ ρ).Nodup ∧ (∀ T, T ∈ dn ++ ρ → mc_real c T.1 T.2) ∧ (∀ T, T ∈ ρ → T.1 ≠ 0) ∧
  (∀ K x, mr c K x = true → ((∀ j, mc_sl c K x j → A K x j) ↔ (K + 1, x) ∈ dn ++ ρ))
section
variable {c : CF}
theorem mc_new_m (k : cf_ok c) {K : Nat} {T : Nat × Nat} : T ∈ mc_new c K ↔ T.1 = K + 1 ∧ mr c K T.2 = true := by
  rw [mc_new, List.mem_map]
  constructor
  · rintro ⟨x, hx, rfl⟩
    exact ⟨rfl, (List.mem_filter.mp hx).2⟩
  · rintro ⟨e, h⟩
    exact ⟨T.2, List.mem_filter.mpr ⟨by have := mc_rx k h; simp; omega, h⟩, Prod.ext e.symm rfl⟩
theorem mc_new_n (K : Nat) : (mc_new c K).Nodup := by
  apply df_map
  · exact List.Pairwise.filter _ (by decide)
  · intro a _ b _ e
    exact congrArg Prod.snd e
theorem mc_fl_m (k : cf_ok c) {T : Nat × Nat} : ∀ N, T ∈ mc_fl c N ↔ ∃ K, K < N ∧ T.1 = K + 1 ∧ mr c K T.2 = true := by
  intro N
  induction N with
  | zero =>
    constructor
    · intro h; cases h
    · rintro ⟨K, h, _⟩; omega
  | succ N ih =>
    rw [mc_fl, List.mem_append, ih, mc_new_m k]
    constructor
    · rintro (h | ⟨K, h, h2⟩)
      · exact ⟨N, by omega, h⟩
      · exact ⟨K, by omega, h2⟩
    · rintro ⟨K, h, h2⟩
      by_cases e : K = N
      · subst e; exact Or.inl h2
      · exact Or.inr ⟨K, by omega, h2⟩
theorem mc_fl_n (k : cf_ok c) : ∀ N, (mc_fl c N).Nodup := by
  intro N
  induction N with
  | zero => exact List.nodup_nil
  | succ N ih =>
    rw [mc_fl, List.nodup_append]
    refine ⟨mc_new_n N, ih, ?_⟩
    intro a ha b hb e
    subst e
    obtain ⟨K, h1, h2, _⟩ := (mc_fl_m k N).mp hb
    have := ((mc_new_m k).mp ha).1
    omega
theorem mc_cnt_mono (k : cf_ok c) {K : Nat} : ∀ d, mc_cnt c K ≤ mc_cnt c (K + d) := by
  intro d
  induction d with
  | zero => exact Nat.le_refl _
  | succ d ih =>
    refine Nat.le_trans ih ?_
    rw [show K + (d + 1) = K + d + 1 from rfl, mc_cnt, mc_cnt, mc_fl, List.length_append]
    omega
theorem mc_cnt_h (k : cf_ok c) {K : Nat} (h : cf_n c ≤ mi c K) : ∀ d, mc_fl c (K + d) = mc_fl c K := by
  intro d
  induction d with
  | zero => rfl
  | succ d ih =>
    rw [show K + (d + 1) = K + d + 1 from rfl, mc_fl, ih]
    have e : mc_new c (K + d) = [] := by
      rw [mc_new, List.filter_eq_nil_iff.mpr, List.map_nil]
      intro x _
      have z : mr c (K + d) x = false := cf_fr_e (cf_ek_9 (by rw [(mc_halt k h d).1]; exact h))
      rw [z]
      decide
    rw [e, List.nil_append]
theorem mc_new_1 (k : cf_ok c) {K x : Nat} (h : mr c K x = true) : mc_cnt c K + 1 ≤ mc_cnt c (K + 1) := by
  rw [mc_cnt, mc_cnt, mc_fl, List.length_append]
  have : (K + 1, x) ∈ mc_new c K := (mc_new_m k).mpr ⟨rfl, h⟩
  have := List.length_pos_of_mem this
  omega
/-- two steps fire at least once -/
theorem mc_two (k : cf_ok c) {K : Nat} (h : mi c K < cf_n c) : mc_cnt c K + 1 ≤ mc_cnt c (K + 2) := by
  have hb : ∀ x, mr c K x = true → mc_cnt c K + 1 ≤ mc_cnt c (K + 2) := fun x hx => Nat.le_trans (mc_new_1 k hx) (mc_cnt_mono k 1)
  rcases cf_cases k (mc_pos k K) with ⟨e, hi, hf, hk⟩ | ⟨e, hi, hf, hk⟩ | ⟨e, hi, hf, hk⟩ | ⟨e, hi, hf, hk⟩ | ⟨e, hi, hf, hk⟩ | ⟨e, hi, hf, hk⟩ | ⟨e, hi, hf, hk, hk2⟩ | ⟨e, hi, hf, hk, hk2⟩ | ⟨e, hi, hf, hk, hk2⟩ | ⟨e, hn, hf⟩
  · exact hb (cf_va c (mi c K)) (by rw [mr, cf_fr_e e]; simp)
  · exact hb (cf_va c (mi c K)) (by rw [mr, cf_fr_e e]; simp)
  · exact hb 0 (by rw [mr, cf_fr_e e]; rfl)
  · obtain ⟨b1, b2, b3, b4, b5, b6, b7⟩ := cf_ot_3 k hi hk
    obtain ⟨a1, a2, a3, a4, a5, a6⟩ := cf_cl_o k (j := cf_op c (mi c K)) (by omega) (Or.inl b3)
    have e1 : mi c (K + 1) = cf_cl c (cf_op c (mi c K)) := by rw [mi_s, cf_nx_e e]; rfl
    have e6 : cf_ek c (mi c (K + 1)) (mf c (K + 1)) = 6 := by
      rw [e1]
      exact cf_ek_6 a2 a3 (by rw [a6]; exact b3)
    have h1 : mr c (K + 1) 0 = true := by rw [mr, cf_fr_e e6]; rfl
    exact Nat.le_trans (Nat.add_le_add_right (mc_cnt_mono k 1) 1) (mc_new_1 k h1)
  · exact hb 0 (by rw [mr, cf_fr_e e]; rfl)
  · exact hb 0 (by rw [mr, cf_fr_e e]; rfl)
  · exact hb 0 (by rw [mr, cf_fr_e e]; rfl)
  · exact hb 0 (by rw [mr, cf_fr_e e]; rfl)
  · exact hb 0 (by rw [mr, cf_fr_e e]; rfl)
  · omega
theorem mc_end (k : cf_ok c) {B : Nat} (h : ∀ K, mc_cnt c K ≤ B) : ∃ K, cf_n c ≤ mi c K := by
  have h1 : ∀ m, (∃ K, cf_n c ≤ mi c K) ∨ m ≤ mc_cnt c (2 * m) := by
    intro m
    induction m with
    | zero => exact Or.inr (Nat.zero_le _)
    | succ m ih =>
      rcases ih with h | h
      · exact Or.inl h
      · by_cases g : cf_n c ≤ mi c (2 * m)
        · exact Or.inl ⟨_, g⟩
        · have := mc_two k (K := 2 * m) (by omega)
          exact Or.inr (by rw [show 2 * (m + 1) = 2 * m + 2 from by omega]; omega)
  rcases h1 (B + 1) with h2 | h2
  · exact h2
  · have := h (2 * (B + 1))
    omega
theorem mt_le (k : cf_ok c) : ∀ K x, x < 5 → mt c K x ≤ mc_cnt c K := by
  intro K
  induction K with
  | zero => intro x _; exact Nat.zero_le _
  | succ K ih =>
    intro x hx
    rw [mt_s]
    split
    · rename_i h
      have h1 := mc_new_1 k h
      have hi := mc_ni k h
      have := ih x hx
      have h4 := ih 4 (by omega)
      rcases cf_cases k (mc_pos k K) with ⟨e, _, hf, hk⟩ | ⟨e, _, hf, hk⟩ | ⟨e, _, hf, hk⟩ | ⟨e, _, hf, hk⟩ | ⟨e, _, hf, hk⟩ | ⟨e, _, hf, hk⟩ | ⟨e, _, hf, hk, hk2⟩ | ⟨e, _, hf, hk, hk2⟩ | ⟨e, _, hf, hk, hk2⟩ | ⟨e, hn, hf⟩ <;> simp only [cf_nt, e] <;> try omega
      · have l := (k.1.2 _ hi).2.2.2.1 hk
        have g1 := ih (cf_vc c (mi c K)) (by omega)
        have g2 := ih (cf_vd c (mi c K)) (by omega)
        omega
      · have l := (k.1.2 _ hi).2.2.1 (by omega) (by omega)
        have g1 := ih (cf_va c (mi c K)) (by omega)
        omega
      · have l := (k.1.2 _ hi).2.2.1 (by omega) (by omega)
        have g1 := ih (cf_va c (mi c K)) (by omega)
        omega
    · exact Nat.le_trans (ih x hx) (mc_cnt_mono k 1)
/-! steps of a run -/
theorem df_pl_c {A A' : Nat → Nat → Nat → Prop} {dn ρ : List (Nat × Nat)} (h : df_pl c A dn ρ) (e : ∀ K x j, A K x j ↔ A' K x j) : df_pl c A' dn ρ := by
  have : A = A' := by funext K x j; exact propext (e K x j)
  rw [← this]; exact h
theorem df_nd_lo (k : cf_ok c) {K x : Nat} (h : mr c K x = true) : 10 ≤ mc_nd c K x ∧ mc_nd c K x < cf_nb c (cf_n c) := by
  obtain ⟨j, hj, _⟩ := mc_sl_x k h
  exact cf_nd_lo k (mc_pos k K) (mc_ni k h) hj
/-- who gets a token sent along an edge -/
theorem df_arr (k : cf_ok c) {T : Nat × Nat} (r : mc_real c T.1 T.2) {n j : Nat} (h : (cf_loc c (mi c T.1) (mf c T.1) T.2, n, j) ∈ (cf_all c).map (cf_E c)) :
    (∃ K x, mr c K x = true ∧ mc_sl c K x j ∧ mc_src c K x j = T ∧ mc_nd c K x = n ∧ mg c K = mg c T.1 ∧ mv c K (mc_sv c K x j) = mv c T.1 T.2) ∨
    (∃ K x, n = 5 + x ∧ x < 5 ∧ j = 0 ∧ cf_n c ≤ mi c K ∧ T = (mp c K x, x)) := by
  obtain ⟨⟨i, f, x', j'⟩, hd, e⟩ := List.mem_map.mp h
  obtain ⟨v, s⟩ := (cf_all_m k _ _ _ _).mp hd
  have e1 : cf_loc c i f (cf_sv c i f x' j') = cf_loc c (mi c T.1) (mf c T.1) T.2 := congrArg Prod.fst e
  have e2 : cf_nd c i f x' = n := congrArg (fun z => z.2.1) e
  have e3 : j' = j := congrArg (fun z => z.2.2) e
  subst e3
  obtain ⟨K, rfl, rfl, g3, g4⟩ := mc_cons k r v s e1
  have hT : mc_src c K x' j' = T := by
    refine Prod.ext ?_ g3
    show mp c K (cf_sv c (mi c K) (mf c K) x' j') = _
    rw [g3]; exact g4
  by_cases hi : mi c K < cf_n c
  · refine Or.inl ⟨K, x', mc_sl_r k s hi, s, hT, e2, ?_, ?_⟩
    · have := (mc_M1 k r.1 K).2.2.2.2.1
      rw [g4] at this
      exact this.symm
    · have := (mc_M1 k r.1 K).2.2.1
      rw [g4] at this
      rw [show mc_sv c K x' j' = T.2 from g3]
      exact this.symm
  · have e9 := cf_ek_9 (c := c) (i := mi c K) (f := mf c K) (by omega)
    have s2 := (cf_sl_e e9).mp s
    simp only [] at s2
    refine Or.inr ⟨K, x', ?_, s2.1, s2.2, by omega, ?_⟩
    · rw [← e2, cf_nd_9 (by omega)]
    · have e5 : mc_sv c K x' j' = x' := by simp only [mc_sv, cf_sv, e9]
      rw [← hT, mc_src, e5]
theorem df_A_s (k : cf_ok c) {D pr : List (Nat × Nat)} {T : Nat × Nat} {K0 x0 n j : Nat} (h0 : mr c K0 x0 = true) (s0 : mc_sl c K0 x0 j) (e0 : mc_src c K0 x0 j = T) (n0 : mc_nd c K0 x0 = n) (K x j' : Nat) :
    df_A c D T ((n, j) :: pr) K x j' ↔ df_A c D T pr K x j' ∨ (K = K0 ∧ x = x0 ∧ j' = j) := by
  constructor
  · rintro ⟨a, b, d | ⟨d1, d2⟩⟩
    · exact Or.inl ⟨a, b, Or.inl d⟩
    · rcases List.mem_cons.mp d2 with d3 | d3
      · have e1 : mc_nd c K x = n := congrArg Prod.fst d3
        have e2 : j' = j := congrArg Prod.snd d3
        subst e2
        have h1 := (mc_M1 k (mc_svl k b) K).2.2.2.2.1
        have h2 := (mc_M1 k (mc_svl k s0) K0).2.2.2.2.1
        have e3 : mp c K (mc_sv c K x j') = T.1 := congrArg Prod.fst d1
        have e4 : mp c K0 (mc_sv c K0 x0 j') = T.1 := congrArg Prod.fst e0
        rw [e3] at h1
        rw [e4] at h2
        obtain ⟨g1, g2⟩ := mc_u k a h0 b s0 (e1.trans n0.symm) (h1.symm.trans h2)
        exact Or.inr ⟨g1, g2, rfl⟩
      · exact Or.inl ⟨a, b, Or.inr ⟨d1, d3⟩⟩
  · rintro (⟨a, b, d | ⟨d1, d2⟩⟩ | ⟨rfl, rfl, rfl⟩)
    · exact ⟨a, b, Or.inl d⟩
    · exact ⟨a, b, Or.inr ⟨d1, List.mem_cons_of_mem _ d2⟩⟩
    · exact ⟨h0, s0, Or.inr ⟨e0, by rw [n0]; exact List.mem_cons_self ..⟩⟩
theorem df_A_e (k : cf_ok c) {D pr : List (Nat × Nat)} {T : Nat × Nat} {n j : Nat} (hn : n < 10) (K x j' : Nat) : df_A c D T ((n, j) :: pr) K x j' ↔ df_A c D T pr K x j' := by
  constructor
  · rintro ⟨a, b, d | ⟨d1, d2⟩⟩
    · exact ⟨a, b, Or.inl d⟩
    · rcases List.mem_cons.mp d2 with d3 | d3
      · have e1 : mc_nd c K x = n := congrArg Prod.fst d3
        have := (df_nd_lo k a).1
        omega
      · exact ⟨a, b, Or.inr ⟨d1, d3⟩⟩
  · rintro ⟨a, b, d | ⟨d1, d2⟩⟩
    · exact ⟨a, b, Or.inl d⟩
    · exact ⟨a, b, Or.inr ⟨d1, List.mem_cons_of_mem _ d2⟩⟩
theorem df_A_f (k : cf_ok c) {D pr : List (Nat × Nat)} {T : Nat × Nat} (r : mc_real c T.1 T.2) (hp : ∀ n j, (cf_loc c (mi c T.1) (mf c T.1) T.2, n, j) ∈ (cf_all c).map (cf_E c) → (n, j) ∈ pr) (T' : Nat × Nat) (K x j : Nat) :
    df_A c D T pr K x j ↔ df_A c (T :: D) T' [] K x j := by
  constructor
  · rintro ⟨a, b, d | ⟨d1, d2⟩⟩
    · exact ⟨a, b, Or.inl (List.mem_cons_of_mem _ d)⟩
    · exact ⟨a, b, Or.inl (by rw [d1]; exact List.mem_cons_self ..)⟩
  · rintro ⟨a, b, d | ⟨d1, d2⟩⟩
    · rcases List.mem_cons.mp d with d1 | d1
      · refine ⟨a, b, Or.inr ⟨d1, ?_⟩⟩
        apply hp
        refine List.mem_map.mpr ⟨(mi c K, mf c K, x, j), (cf_all_m k _ _ _ _).mpr ⟨mc_pos k K, b⟩, ?_⟩
        refine Prod.ext ?_ rfl
        show cf_loc c (mi c K) (mf c K) (mc_sv c K x j) = _
        rw [← (mc_M1 k (mc_svl k b) K).2.2.2.2.2]
        rw [← d1]
        rfl
      · exact ⟨a, b, Or.inl d1⟩
    · cases d2
theorem df_no {A : Nat → Nat → Nat → Prop} {dn ρ : List (Nat × Nat)} (h : df_pl c A dn ρ) {K0 x0 j : Nat} (h0 : mr c K0 x0 = true) (s0 : mc_sl c K0 x0 j) (hA : ¬ A K0 x0 j) : (K0 + 1, x0) ∉ dn ++ ρ := by
  intro z
  exact hA ((h.2.2.2 K0 x0 h0).mpr z j s0)
/-- a firing becomes ready -/
theorem df_pl_r {A A' : Nat → Nat → Nat → Prop} {dn ρ : List (Nat × Nat)} (k : cf_ok c) (h : df_pl c A dn ρ) {K0 x0 j : Nat} (h0 : mr c K0 x0 = true) (s0 : mc_sl c K0 x0 j) (hA : ¬ A K0 x0 j)
    (e : ∀ K x j', A' K x j' ↔ A K x j' ∨ (K = K0 ∧ x = x0 ∧ j' = j)) (ha : ∀ j', mc_sl c K0 x0 j' → A' K0 x0 j') : df_pl c A' dn (ρ ++ [(K0 + 1, x0)]) := by
  have hno := df_no h h0 s0 hA
  obtain ⟨p1, p2, p3, p4⟩ := h
  refine ⟨?_, ?_, ?_, ?_⟩
  · rw [← List.append_assoc, List.nodup_append]
    refine ⟨p1, by simp, ?_⟩
    intro a ha b hb e
    rw [List.mem_singleton] at hb
    rw [e, hb] at ha
    exact hno ha
  · intro T hT
    rw [← List.append_assoc, List.mem_append, List.mem_singleton] at hT
    rcases hT with hT | rfl
    · exact p2 T hT
    · exact ⟨mc_rx k h0, Or.inr ⟨K0, rfl, h0⟩⟩
  · intro T hT
    rw [List.mem_append, List.mem_singleton] at hT
    rcases hT with hT | rfl
    · exact p3 T hT
    · exact Nat.succ_ne_zero _
  · intro K x hr
    rw [← List.append_assoc, List.mem_append, List.mem_singleton, ← p4 K x hr]
    constructor
    · intro hj
      by_cases g : K = K0 ∧ x = x0
      · exact Or.inr (by rw [g.1, g.2])
      · refine Or.inl fun j' hj' => ?_
        rcases (e K x j').mp (hj j' hj') with a | ⟨a1, a2, _⟩
        · exact a
        · exact absurd ⟨a1, a2⟩ g
    · rintro (hj | hj)
      · exact fun j' hj' => (e K x j').mpr (Or.inl (hj j' hj'))
      · have g1 : K = K0 := Nat.succ.inj (congrArg Prod.fst hj)
        have g2 : x = x0 := congrArg Prod.snd hj
        subst g1 g2
        exact ha
/-- a firing waits for its other input -/
theorem df_pl_w {A A' : Nat → Nat → Nat → Prop} {dn ρ : List (Nat × Nat)} (h : df_pl c A dn ρ) {K0 x0 j j1 : Nat} (h0 : mr c K0 x0 = true) (s0 : mc_sl c K0 x0 j) (hA : ¬ A K0 x0 j)
    (e : ∀ K x j', A' K x j' ↔ A K x j' ∨ (K = K0 ∧ x = x0 ∧ j' = j)) (s1 : mc_sl c K0 x0 j1) (hn : ¬ A' K0 x0 j1) : df_pl c A' dn ρ := by
  obtain ⟨p1, p2, p3, p4⟩ := h
  refine ⟨p1, p2, p3, ?_⟩
  intro K x hr
  rw [← p4 K x hr]
  constructor
  · intro hj j' hj'
    rcases (e K x j').mp (hj j' hj') with a | ⟨rfl, rfl, rfl⟩
    · exact a
    · exact absurd (hj j1 s1) hn
  · exact fun hj j' hj' => (e K x j').mpr (Or.inl (hj j' hj'))
/-- a ready firing is taken -/
theorem df_pl_t {A : Nat → Nat → Nat → Prop} {D ρ ρ' : List (Nat × Nat)} {T : Nat × Nat} (h : df_pl c A D ρ) (hp : ((T :: D) ++ ρ').Perm (D ++ ρ)) (hs : ∀ U, U ∈ ρ' → U ∈ ρ) : df_pl c A (T :: D) ρ' := by
  obtain ⟨p1, p2, p3, p4⟩ := h
  refine ⟨hp.nodup_iff.mpr p1, fun U hU => p2 U (hp.mem_iff.mp hU), fun U hU => p3 U (hs U hU), ?_⟩
  intro K x hr
  rw [p4 K x hr]
  exact hp.mem_iff.symm
/-- a token of the begin -/
theorem df_pl_0 {A : Nat → Nat → Nat → Prop} {D ρ : List (Nat × Nat)} {x : Nat} (h : df_pl c A D ρ) (hx : x < 5) (hD : (0, x) ∉ D) : df_pl c A ((0, x) :: D) ρ := by
  obtain ⟨p1, p2, p3, p4⟩ := h
  refine ⟨?_, ?_, p3, ?_⟩
  · rw [List.cons_append, List.nodup_cons]
    refine ⟨?_, p1⟩
    intro z
    rcases List.mem_append.mp z with z | z
    · exact hD z
    · exact p3 _ z rfl
  · intro U hU
    rw [List.cons_append, List.mem_cons] at hU
    rcases hU with rfl | hU
    · exact ⟨hx, Or.inl rfl⟩
    · exact p2 U hU
  · intro K y hr
    rw [p4 K y hr, List.cons_append, List.mem_cons]
    constructor
    · exact Or.inr
    · rintro (z | z)
      · exact absurd (congrArg Prod.fst z) (Nat.succ_ne_zero _)
      · exact z
theorem df_dcs {D pr ρ : List (Nat × Nat)} {T : Nat × Nat} (h : df_pl c (df_A c D T pr) (T :: D) ρ) : df_dc c (T :: D) := by
  intro K x hm
  have hr := h.2.1 _ (List.mem_append_left _ hm)
  obtain ⟨hx, h1 | ⟨K', h1, h2⟩⟩ := hr
  · exact absurd h1 (Nat.succ_ne_zero _)
  · have e : K = K' := Nat.succ.inj h1
    subst e
    refine ⟨h2, fun j hj => ?_⟩
    obtain ⟨_, _, a | ⟨a, _⟩⟩ := (h.2.2.2 K x h2).mpr (List.mem_append_left _ hm) j hj
    · exact List.mem_cons_of_mem _ a
    · rw [a]; exact List.mem_cons_self ..
theorem df_rho (k : cf_ok c) {D pr ρ : List (Nat × Nat)} {T : Nat × Nat} (h : df_pl c (df_A c D T pr) (T :: D) ρ) (hD : (T :: D).length ≤ 405) : ρ.length ≤ 4465 := by
  refine df_ready k (df_dcs h) hD (List.nodup_append.mp h.1).2.1 ?_
  intro U hU
  obtain ⟨hx, h1 | ⟨K, h1, h2⟩⟩ := h.2.1 U (List.mem_append_right _ hU)
  · exact absurd h1 (h.2.2.1 U hU)
  · refine ⟨K, h1, h2, fun j hj => ?_⟩
    have hm : (K + 1, U.2) ∈ (T :: D) ++ ρ := by
      rw [← h1]; exact List.mem_append_right _ hU
    obtain ⟨_, _, a | ⟨a, _⟩⟩ := (h.2.2.2 K U.2 h2).mpr hm j hj
    · exact List.mem_cons_of_mem _ a
    · rw [a]; exact List.mem_cons_self ..
/-- a run that has nothing ready has done all -/
theorem df_full (k : cf_ok c) {D : List (Nat × Nat)} {T : Nat × Nat} (h : df_pl c (df_A c D T []) D []) (h0 : ∀ x, x < 5 → (0, x) ∈ D) : ∀ N K x, K < N → mc_real c K x → (K, x) ∈ D := by
  intro N
  induction N with
  | zero => intro K x hK; omega
  | succ N ih =>
    intro K x hK hr
    obtain ⟨hx, rfl | ⟨K', rfl, h2⟩⟩ := hr
    · exact h0 x hx
    · have := (h.2.2.2 K' x h2).mp (by
        intro j hj
        refine ⟨h2, hj, Or.inl ?_⟩
        obtain ⟨m1, m2, _⟩ := mc_M1 k (mc_svl k hj) K'
        exact ih _ _ (by omega) m2)
      rwa [List.append_nil] at this
end
end
section
/-! the graph as X stores it -/
def lk_p (o : Nat) : List (Nat × Nat × Nat) → Int32
  | [] => -1
  | e :: t => if e.1 = o then nI t.length else lk_p o t
def lk_l (et ei ne : Nat → Int32) : List (Nat × Nat × Nat) → Prop
  | [] => True
  | e :: t => et t.length = nI e.2.1 ∧ ei t.length = nI e.2.2 ∧ ne t.length = lk_p e.1 t ∧ lk_l et ei ne t
theorem lk_p_n {o : Nat} : ∀ L : List (Nat × Nat × Nat), (∀ e, e ∈ L → e.1 ≠ o) → lk_p o L = -1
  | [], _ => rfl
  | e :: t, h => by
    rw [lk_p, if_neg (h e (List.mem_cons_self ..))]
    exact lk_p_n t fun a ha => h a (List.mem_cons_of_mem _ ha)
theorem lk_l_u {et ei ne : Nat → Int32} {m : Nat} {v w z : Int32} : ∀ L : List (Nat × Nat × Nat), L.length ≤ m → lk_l et ei ne L → lk_l (upd et m v) (upd ei m w) (upd ne m z) L
  | [], _, _ => trivial
  | e :: t, h, ⟨a, b, d, f⟩ => by
    rw [List.length_cons] at h
    have hne : t.length ≠ m := by omega
    exact ⟨by rw [pk_un hne]; exact a, by rw [pk_un hne]; exact b, by rw [pk_un hne]; exact d, lk_l_u t (by omega) f⟩
def cf_NK (c : CF) (l s : Nat) : Int32 := if cf_kd c l = 0 then 2 else if cf_kd c l = 1 then 3 else if cf_kd c l = 2 then 4 else if cf_kd c l = 4 then (if s < 5 then 6 else 4) else if cf_kd c (cf_op c l) = 2 then 5 else 7
def cf_NN (c : CF) (l s : Nat) : Int32 := if cf_kd c l ≤ 1 then cf_lb c l else if cf_kd c l = 4 then (if s < 5 then nI l else 0) else 0
def cf_kk (c : CF) : Nat → Nat → Int32
  | 0, m => if m < 5 then 0 else 1
  | i + 1, m => if m < cf_nb c i then cf_kk c i m else cf_NK c i (m - cf_nb c i)
def cf_nn (c : CF) : Nat → Nat → Int32
  | 0, m => if m < 5 then nI m else nI (m - 5)
  | i + 1, m => if m < cf_nb c i then cf_nn c i m else cf_NN c i (m - cf_nb c i)
section
variable {c : CF}
theorem cf_kk_e {i s : Nat} (hs : s < cf_wd c i) : ∀ d, cf_kk c (i + 1 + d) (cf_nb c i + s) = cf_NK c i s ∧ cf_nn c (i + 1 + d) (cf_nb c i + s) = cf_NN c i s := by
  intro d
  induction d with
  | zero =>
    rw [Nat.add_zero, cf_kk, cf_nn, if_neg (by omega), if_neg (by omega), Nat.add_sub_cancel_left]
    exact ⟨rfl, rfl⟩
  | succ d ih =>
    have h := cf_nb_lt (c := c) (i := i) (i' := i + 1 + d) (by omega) hs
    rw [show i + 1 + (d + 1) = i + 1 + d + 1 from rfl, cf_kk, cf_nn, if_pos h, if_pos h]
    exact ih
theorem cf_kk_n {i s : Nat} (hs : s < cf_wd c i) (hi : i < cf_n c) : cf_kk c (cf_n c) (cf_nb c i + s) = cf_NK c i s ∧ cf_nn c (cf_n c) (cf_nb c i + s) = cf_NN c i s := by
  have h := cf_kk_e (c := c) hs (cf_n c - (i + 1))
  rw [show i + 1 + (cf_n c - (i + 1)) = cf_n c from by omega] at h
  exact h
theorem cf_kk_0 {m : Nat} (hm : m < 10) : ∀ i, cf_kk c i m = (if m < 5 then 0 else 1) ∧ cf_nn c i m = (if m < 5 then nI m else nI (m - 5)) := by
  intro i
  induction i with
  | zero => exact ⟨rfl, rfl⟩
  | succ i ih =>
    have h1 := cf_nb_ge (c := c) i
    have h2 : m < cf_nb c i := by omega
    rw [cf_kk, cf_nn, if_pos h2, if_pos h2]
    exact ih
end
def gp_I (c : CF) (L : List (Nat × Nat × Nat)) (N : Nat) (f_nodes f_edges : Int32) (nk nn fe et ei ne : Nat → Int32) : Prop :=
  f_nodes = nI N ∧ f_edges = nI L.length ∧ (∀ m, m < N → nk m = cf_kk c (cf_n c) m ∧ nn m = cf_nn c (cf_n c) m) ∧ lk_l et ei ne L ∧ (∀ o, o < 2 * N → fe o = lk_p o L) ∧ (∀ e, e ∈ L → e.1 < 2 * N)
section
variable {c : CF}
variable {f_lines f_opened f_nodes f_edges f_depth f_tags f_readyFrom f_readyTo f_ranOrder f_isRun f_ended f_stepCount f_now : Int32} {a_lineKind a_lineA a_lineB a_lineC a_lineD a_openLine a_start a_nodeKind a_nodeNumber a_firstEdge a_edgeTo a_edgeInput a_nextEdge a_current a_keptFirst a_keptSecond a_openIs a_hasOther a_tagLoop a_tagRound a_tagAround a_waitNode a_waitTag a_waitValue a_waitInput a_readyNode a_readyTag a_readyA a_readyB a_readyInput a_result a_resultTime a_stepsAt : Nat → Int32}
theorem xs_node {post : Int32 → SX → Prop} {L : List (Nat × Nat × Nat)} {N : Nat} {k m : Int32} (g : gp_I c L N f_nodes f_edges a_nodeKind a_nodeNumber a_firstEdge a_edgeTo a_edgeInput a_nextEdge)
    (hN : N < 320) (hk : k = cf_kk c (cf_n c) N) (hm : m = cf_nn c (cf_n c) N)
    (K : ∀ f' nk nn fe, gp_I c L (N + 1) f' f_edges nk nn fe a_edgeTo a_edgeInput a_nextEdge → post (nI N) (f_lines, f_opened, f', f_edges, f_depth, f_tags, f_readyFrom, f_readyTo, f_ranOrder, f_isRun, f_ended, f_stepCount, f_now, a_lineKind, a_lineA, a_lineB, a_lineC, a_lineD, a_openLine, a_start, nk, nn, fe, a_edgeTo, a_edgeInput, a_nextEdge, a_current, a_keptFirst, a_keptSecond, a_openIs, a_hasOther, a_tagLoop, a_tagRound, a_tagAround, a_waitNode, a_waitTag, a_waitValue, a_waitInput, a_readyNode, a_readyTag, a_readyA, a_readyB, a_readyInput, a_result, a_resultTime, a_stepsAt)) : wpX_node post (f_lines, f_opened, f_nodes, f_edges, f_depth, f_tags, f_readyFrom, f_readyTo, f_ranOrder, f_isRun, f_ended, f_stepCount, f_now, a_lineKind, a_lineA, a_lineB, a_lineC, a_lineD, a_openLine, a_start, a_nodeKind, a_nodeNumber, a_firstEdge, a_edgeTo, a_edgeInput, a_nextEdge, a_current, a_keptFirst, a_keptSecond, a_openIs, a_hasOther, a_tagLoop, a_tagRound, a_tagAround, a_waitNode, a_waitTag, a_waitValue, a_waitInput, a_readyNode, a_readyTag, a_readyA, a_readyB, a_readyInput, a_result, a_resultTime, a_stepsAt) k m := by
  obtain ⟨e1, e2, g1, g2, g3, g4⟩ := g
  subst e1
  have hin : vp_in (nI N) 320 := vp_in_nI hN (by decide)
  have hcl : (nI N).toNatClampNeg = N := nI_clamp (by omega)
  have h2 : (2 : Int32) * nI N = nI (2 * N) := pk_mul 2 N
  have h3 : (2 : Int32) * nI N + 1 = nI (2 * N + 1) := by rw [h2, nI_1]
  refine And.intro hin (nm_r (e' := upd a_nodeKind N k) (by rw [hcl]) (And.intro hin (nm_r (e' := upd a_nodeNumber N m) (by rw [hcl]) (And.intro (by rw [h2]; exact vp_in_nI (by omega) (by decide)) (nm_r (e' := upd a_firstEdge (2 * N) (-1)) (by rw [h2, nI_clamp (by omega)]) (And.intro (by rw [h3]; exact vp_in_nI (by omega) (by decide)) (nm_r (e' := upd (upd a_firstEdge (2 * N) (-1)) (2 * N + 1) (-1)) (by rw [h3, nI_clamp (by omega)]) (nm_r (e' := nI (N + 1)) (nI_1 N) ?_))))))))
  rw [nI_pred]
  refine K _ _ _ _ ⟨rfl, e2, ?_, g2, ?_, ?_⟩
  · intro i hi
    by_cases h : i = N
    · subst h
      rw [pk_us, pk_us]; exact ⟨hk, hm⟩
    · rw [pk_un h, pk_un h]; exact g1 i (by omega)
  · intro o ho
    by_cases h : o = 2 * N + 1
    · subst h
      rw [pk_us]
      refine (lk_p_n L fun e he => ?_).symm
      have := g4 e he
      omega
    · rw [pk_un h]
      by_cases h' : o = 2 * N
      · subst h'
        rw [pk_us]
        refine (lk_p_n L fun e he => ?_).symm
        have := g4 e he
        omega
      · rw [pk_un h']
        exact g3 o (by omega)
  · intro e he
    have := g4 e he
    omega
theorem xs_edge {post : SX → Prop} {L : List (Nat × Nat × Nat)} {N o n j : Nat} {p0 p1 p2 : Int32} (g : gp_I c L N f_nodes f_edges a_nodeKind a_nodeNumber a_firstEdge a_edgeTo a_edgeInput a_nextEdge)
    (h0 : p0 = nI o) (h1 : p1 = nI n) (h2 : p2 = nI j) (hN : N ≤ 320) (ho : o < 2 * N) (hL : L.length < 700)
    (K : ∀ f' fe et ei ne, gp_I c ((o, n, j) :: L) N f_nodes f' a_nodeKind a_nodeNumber fe et ei ne → post (f_lines, f_opened, f_nodes, f', f_depth, f_tags, f_readyFrom, f_readyTo, f_ranOrder, f_isRun, f_ended, f_stepCount, f_now, a_lineKind, a_lineA, a_lineB, a_lineC, a_lineD, a_openLine, a_start, a_nodeKind, a_nodeNumber, fe, et, ei, ne, a_current, a_keptFirst, a_keptSecond, a_openIs, a_hasOther, a_tagLoop, a_tagRound, a_tagAround, a_waitNode, a_waitTag, a_waitValue, a_waitInput, a_readyNode, a_readyTag, a_readyA, a_readyB, a_readyInput, a_result, a_resultTime, a_stepsAt)) : wpX_edge post (f_lines, f_opened, f_nodes, f_edges, f_depth, f_tags, f_readyFrom, f_readyTo, f_ranOrder, f_isRun, f_ended, f_stepCount, f_now, a_lineKind, a_lineA, a_lineB, a_lineC, a_lineD, a_openLine, a_start, a_nodeKind, a_nodeNumber, a_firstEdge, a_edgeTo, a_edgeInput, a_nextEdge, a_current, a_keptFirst, a_keptSecond, a_openIs, a_hasOther, a_tagLoop, a_tagRound, a_tagAround, a_waitNode, a_waitTag, a_waitValue, a_waitInput, a_readyNode, a_readyTag, a_readyA, a_readyB, a_readyInput, a_result, a_resultTime, a_stepsAt) p0 p1 p2 := by
  obtain ⟨e1, e2, g1, g2, g3, g4⟩ := g
  subst e2 h0
  have hin : vp_in (nI L.length) 700 := vp_in_nI hL (by decide)
  have hcl : (nI L.length).toNatClampNeg = L.length := nI_clamp (by omega)
  have hoi : vp_in (nI o) 640 := vp_in_nI (by omega) (by decide)
  have hoc : (nI o).toNatClampNeg = o := nI_clamp (by omega)
  refine And.intro hin (nm_r (e' := upd a_edgeTo L.length p1) (by rw [hcl]) (And.intro hin (nm_r (e' := upd a_edgeInput L.length p2) (by rw [hcl]) (And.intro hoi (And.intro hin (nm_r (e' := upd a_nextEdge L.length (a_firstEdge o)) (by rw [hcl, hoc]) (And.intro hoi (nm_r (e' := upd a_firstEdge o (nI L.length)) (by rw [hoc]) (nm_r (e' := nI (L.length + 1)) (nI_1 _) ?_)))))))))
  refine K _ _ _ _ _ ⟨e1, rfl, g1, ?_, ?_, ?_⟩
  · refine ⟨by rw [pk_us]; exact h1, by rw [pk_us]; exact h2, by rw [pk_us]; exact g3 o ho, lk_l_u L (Nat.le_refl _) g2⟩
  · intro o' ho'
    by_cases h : o' = o
    · subst h
      rw [pk_us, lk_p, if_pos rfl]
    · rw [pk_un h, lk_p, if_neg (fun z => h z.symm)]
      exact g3 o' ho'
  · intro e he
    rcases List.mem_cons.mp he with rfl | he
    · exact ho
    · exact g4 e he
end
end
section
/-! X translates: what holds between two lines -/
def px_I (c : CF) (fo : Int32) (fl : Nat → Int32) (u : SX) : Prop := match u with
  | (f_lines, f_opened, f_nodes, f_edges, f_depth, f_tags, f_readyFrom, f_readyTo, f_ranOrder, f_isRun, f_ended, f_stepCount, f_now, a_lineKind, a_lineA, a_lineB, a_lineC, a_lineD, a_openLine, a_start, a_nodeKind, a_nodeNumber, a_firstEdge, a_edgeTo, a_edgeInput, a_nextEdge, a_current, a_keptFirst, a_keptSecond, a_openIs, a_hasOther, a_tagLoop, a_tagRound, a_tagAround, a_waitNode, a_waitTag, a_waitValue, a_waitInput, a_readyNode, a_readyTag, a_readyA, a_readyB, a_readyInput, a_result, a_resultTime, a_stepsAt) => f_lines = nI (cf_n c) ∧ f_opened = fo ∧ a_lineKind = c.2.1 ∧ a_lineA = c.2.2.1 ∧ a_lineB = c.2.2.2.1 ∧ a_lineC = c.2.2.2.2.1 ∧ a_lineD = c.2.2.2.2.2.1 ∧ a_openLine = fl ∧ a_start = c.2.2.2.2.2.2
def gx_I (c : CF) (L : List (Nat × Nat × Nat)) (N : Nat) (u : SX) : Prop := match u with
  | (f_lines, f_opened, f_nodes, f_edges, f_depth, f_tags, f_readyFrom, f_readyTo, f_ranOrder, f_isRun, f_ended, f_stepCount, f_now, a_lineKind, a_lineA, a_lineB, a_lineC, a_lineD, a_openLine, a_start, a_nodeKind, a_nodeNumber, a_firstEdge, a_edgeTo, a_edgeInput, a_nextEdge, a_current, a_keptFirst, a_keptSecond, a_openIs, a_hasOther, a_tagLoop, a_tagRound, a_tagAround, a_waitNode, a_waitTag, a_waitValue, a_waitInput, a_readyNode, a_readyTag, a_readyA, a_readyB, a_readyInput, a_result, a_resultTime, a_stepsAt) => gp_I c L N f_nodes f_edges a_nodeKind a_nodeNumber a_firstEdge a_edgeTo a_edgeInput a_nextEdge
def tr_k (c : CF) (ks : Nat → Nat → Nat) (oi kf kt : Nat → Int32) : List Nat → Prop
  | [] => True
  | j :: r => oi r.length = nI (cf_kd c j) ∧ (∀ x, x < 5 → kt (5 * r.length + x) = nI (ks j x)) ∧ (cf_kd c j = 4 → ∀ x, x < 5 → kf (5 * r.length + x) = nI (cf_nb c j + x)) ∧ tr_k c ks oi kf kt r
def tr_I (c : CF) (fo : Int32) (fl : Nat → Int32) (L : List (Nat × Nat × Nat)) (N : Nat) (cur : Nat → Nat) (stk : List Nat) (ks : Nat → Nat → Nat) (u : SX) : Prop := px_I c fo fl u ∧ gx_I c L N u ∧ (match u with
  | (f_lines, f_opened, f_nodes, f_edges, f_depth, f_tags, f_readyFrom, f_readyTo, f_ranOrder, f_isRun, f_ended, f_stepCount, f_now, a_lineKind, a_lineA, a_lineB, a_lineC, a_lineD, a_openLine, a_start, a_nodeKind, a_nodeNumber, a_firstEdge, a_edgeTo, a_edgeInput, a_nextEdge, a_current, a_keptFirst, a_keptSecond, a_openIs, a_hasOther, a_tagLoop, a_tagRound, a_tagAround, a_waitNode, a_waitTag, a_waitValue, a_waitInput, a_readyNode, a_readyTag, a_readyA, a_readyB, a_readyInput, a_result, a_resultTime, a_stepsAt) => (∀ x, x < 5 → a_current x = nI (cur x)) ∧ f_depth = nI stk.length ∧ tr_k c ks a_openIs a_keptFirst a_keptSecond stk)
/-- the first x of five are new -/
def ti (x : Nat) (a b : Nat → Nat) (y : Nat) : Nat := if y < x then a y else b y
theorem ti_t {x y : Nat} {a b : Nat → Nat} (h : y < x) : ti x a b y = a y := if_pos h
theorem ti_f {x y : Nat} {a b : Nat → Nat} (h : x ≤ y) : ti x a b y = b y := if_neg (by omega)
theorem ti_s {o x : Nat} {cur : Nat → Int32} {a b : Nat → Nat} (h : ∀ y, y < 5 → cur (o + y) = nI (ti x a b y)) : ∀ y, y < 5 → upd cur (o + x) (nI (a x)) (o + y) = nI (ti (x + 1) a b y) := by
  intro y hy
  by_cases e : y = x
  · subst e
    rw [pk_us, ti_t (by omega)]
  · rw [pk_un (by omega), h y hy]
    by_cases g : y < x
    · rw [ti_t g, ti_t (by omega)]
    · rw [ti_f (by omega), ti_f (by omega)]
theorem ti_s0 {x : Nat} {cur : Nat → Int32} {a b : Nat → Nat} (h : ∀ y, y < 5 → cur y = nI (ti x a b y)) : ∀ y, y < 5 → upd cur x (nI (a x)) y = nI (ti (x + 1) a b y) := by
  have := ti_s (o := 0) (x := x) (cur := cur) (a := a) (b := b) (fun y hy => by rw [Nat.zero_add]; exact h y hy)
  intro y hy
  have h2 := this y hy
  rw [Nat.zero_add, Nat.zero_add] at h2
  exact h2
section
variable {c : CF}
theorem tr_k_u {ks ks' : Nat → Nat → Nat} {oi kf kt oi' kf' kt' : Nat → Int32} : ∀ stk : List Nat, (∀ d, d < stk.length → oi' d = oi d) → (∀ d, d < 5 * stk.length → kf' d = kf d ∧ kt' d = kt d) → (∀ j, j ∈ stk → ∀ x, x < 5 → ks' j x = ks j x) → tr_k c ks oi kf kt stk → tr_k c ks' oi' kf' kt' stk
  | [], _, _, _, _ => trivial
  | j :: r, h1, h2, h3, ⟨a, b, d, e⟩ => by
    rw [List.length_cons] at h1 h2
    refine ⟨?_, ?_, ?_, tr_k_u r (fun d hd => h1 d (by omega)) (fun d hd => h2 d (by omega)) (fun i hi => h3 i (List.mem_cons_of_mem _ hi)) e⟩
    · rw [h1 _ (by omega)]; exact a
    · intro x hx
      rw [(h2 _ (by omega)).2, h3 j (List.mem_cons_self ..) x hx]; exact b x hx
    · intro h4 x hx
      rw [(h2 _ (by omega)).1]; exact d h4 x hx
theorem cf_La_lt (k : cf_ok c) {x : Nat} (hx : x < 5) : ∀ i, i ≤ cf_n c → cf_La c i x < 2 * cf_nb c i := by
  intro i
  induction i with
  | zero => intro _; rw [cf_La, cf_nb]; omega
  | succ i ih =>
    intro hi
    have hi' : i < cf_n c := by omega
    have h := ih (by omega)
    by_cases h1 : cf_kd c i ≤ 1
    · rw [cf_La_1 h1, cf_nb, cf_wd1 h1]
      split <;> omega
    · rcases cf_k6 k.1 hi' with g | g | g | g | g | g
      · omega
      · omega
      · rw [cf_La_2 (Or.inl g), cf_nb, cf_wd5 (Or.inl g)]; omega
      · obtain ⟨a1, a2, a3, _⟩ := cf_ot_3 k hi' g
        have := cf_nb_lt (c := c) (i := cf_op c i) (i' := i) (s := x) a1 (by rw [cf_wd5 (Or.inl a3)]; exact hx)
        rw [cf_La_3 g, cf_nb, cf_wd0 g]; omega
      · rw [cf_La_4 g, cf_nb, cf_wd10 g]; omega
      · rw [cf_La_2 (Or.inr g), cf_nb, cf_wd5 (Or.inr g)]; omega
theorem cf_ks_lt (k : cf_ok c) {x i j : Nat} (hx : x < 5) (hi : i ≤ cf_n c) (hj : j ∈ cf_st c i) : cf_ks c i j x < 2 * cf_nb c i := by
  obtain ⟨h1, h2, _⟩ := cf_stm hj
  rw [cf_ks]
  split
  · rename_i h4
    have := cf_nb_lt (c := c) (i := j) (i' := i) (s := 5 + x) h1 (by rw [cf_wd10 h4]; omega)
    omega
  · have h2' : cf_kd c j = 2 := by omega
    cases e : cf_oth c i j with
    | none =>
      have := cf_nb_lt (c := c) (i := j) (i' := i) (s := x) h1 (by rw [cf_wd5 (Or.inl h2')]; omega)
      simp only []
      omega
    | some m =>
      obtain ⟨a, _⟩ := cf_oth_s _ _ _ e
      have h3 := cf_La_lt k hx m (by omega)
      have h4 := cf_nb_mono (c := c) (i := m) (i - m)
      rw [show m + (i - m) = i from by omega] at h4
      simp only []
      omega
theorem cf_ks_s {i j x : Nat} (h : cf_kd c i ≠ 3 ∨ (cf_st c i).head? ≠ some j) : cf_ks c (i + 1) j x = cf_ks c i j x := by
  have : cf_oth c (i + 1) j = cf_oth c i j := by
    rw [cf_oth, if_neg]
    rintro ⟨a, b⟩
    rcases h with h | h
    · exact h a
    · exact h b
  rw [cf_ks, cf_ks, this]
end
section
variable {c : CF} {fo : Int32} {fl : Nat → Int32}
variable {f_lines f_opened f_nodes f_edges f_depth f_tags f_readyFrom f_readyTo f_ranOrder f_isRun f_ended f_stepCount f_now : Int32} {a_lineKind a_lineA a_lineB a_lineC a_lineD a_openLine a_start a_nodeKind a_nodeNumber a_firstEdge a_edgeTo a_edgeInput a_nextEdge a_current a_keptFirst a_keptSecond a_openIs a_hasOther a_tagLoop a_tagRound a_tagAround a_waitNode a_waitTag a_waitValue a_waitInput a_readyNode a_readyTag a_readyA a_readyB a_readyInput a_result a_resultTime a_stepsAt : Nat → Int32}
/-! choosers: from a base node N0, the variables at cur0 -/
def ux_ch (post : SX → Prop) (x2 : Int32) (n : Nat) (x3 : Int32) (u : SX) : Prop := match u with
  | (f_lines, f_opened, f_nodes, f_edges, f_depth, f_tags, f_readyFrom, f_readyTo, f_ranOrder, f_isRun, f_ended, f_stepCount, f_now, a_lineKind, a_lineA, a_lineB, a_lineC, a_lineD, a_openLine, a_start, a_nodeKind, a_nodeNumber, a_firstEdge, a_edgeTo, a_edgeInput, a_nextEdge, a_current, a_keptFirst, a_keptSecond, a_openIs, a_hasOther, a_tagLoop, a_tagRound, a_tagAround, a_waitNode, a_waitTag, a_waitValue, a_waitInput, a_readyNode, a_readyTag, a_readyA, a_readyB, a_readyInput, a_result, a_resultTime, a_stepsAt) => wX_choosers_9 post x2 n x3 f_lines f_opened f_nodes f_edges f_depth f_tags f_readyFrom f_readyTo f_ranOrder f_isRun f_ended f_stepCount f_now a_lineKind a_lineA a_lineB a_lineC a_lineD a_openLine a_start a_nodeKind a_nodeNumber a_firstEdge a_edgeTo a_edgeInput a_nextEdge a_current a_keptFirst a_keptSecond a_openIs a_hasOther a_tagLoop a_tagRound a_tagAround a_waitNode a_waitTag a_waitValue a_waitInput a_readyNode a_readyTag a_readyA a_readyB a_readyInput a_result a_resultTime a_stepsAt
def ch_I (c : CF) (fo : Int32) (fl : Nat → Int32) (i f N0 : Nat) (L0 : List (Nat × Nat × Nat)) (cur0 : Nat → Nat) (stk : List Nat) (ks : Nat → Nat → Nat) (kf : Nat → Int32) (x : Nat) (u : SX) : Prop :=
  tr_I c fo fl ((cf_dch i f x).map (cf_E c) ++ L0) (N0 + x) (ti x (fun y => 2 * (N0 + y)) cur0) stk ks u ∧ (match u with
  | (f_lines, f_opened, f_nodes, f_edges, f_depth, f_tags, f_readyFrom, f_readyTo, f_ranOrder, f_isRun, f_ended, f_stepCount, f_now, a_lineKind, a_lineA, a_lineB, a_lineC, a_lineD, a_openLine, a_start, a_nodeKind, a_nodeNumber, a_firstEdge, a_edgeTo, a_edgeInput, a_nextEdge, a_current, a_keptFirst, a_keptSecond, a_openIs, a_hasOther, a_tagLoop, a_tagRound, a_tagAround, a_waitNode, a_waitTag, a_waitValue, a_waitInput, a_readyNode, a_readyTag, a_readyA, a_readyB, a_readyInput, a_result, a_resultTime, a_stepsAt) => a_keptFirst = kf ∧ ∀ y, y < x → a_keptSecond (5 * stk.length + y) = nI (2 * (N0 + y) + 1))
theorem xs_ch {post : SX → Prop} {i f N0 v0 : Nat} {L0 : List (Nat × Nat × Nat)} {cur0 : Nat → Nat} {stk : List Nat} {ks : Nat → Nat → Nat} {kf : Nat → Int32}
    (hs : stk.length < 4) (hN : N0 ≤ 310) (hL : L0.length < 680) (hv : v0 < 5) (hc : ∀ y, y < 5 → cur0 y < 2 * N0)
    (hE : ∀ x, x < 5 → cf_E c (i, f, x, 0) = (cur0 x, N0 + x, 0) ∧ cf_E c (i, f, x, 1) = (cur0 v0, N0 + x, 1))
    (hk : ∀ x, x < 5 → cf_kk c (cf_n c) (N0 + x) = 4 ∧ cf_nn c (cf_n c) (N0 + x) = 0)
    (H : ∀ u, ch_I c fo fl i f N0 L0 cur0 stk ks kf 5 u → post u) :
    ∀ m x, x + m = 5 → ∀ n, m < n → ∀ u, ch_I c fo fl i f N0 L0 cur0 stk ks kf x u → ux_ch post (nI (cur0 v0)) n (nI x) u := by
  intro m
  induction m with
  | zero =>
    intro x hx n hn u h
    obtain ⟨n, rfl⟩ : ∃ n', n = n' + 1 := ⟨n - 1, by omega⟩
    have : x = 5 := by omega
    subst this
    obtain ⟨f_lines, f_opened, f_nodes, f_edges, f_depth, f_tags, f_readyFrom, f_readyTo, f_ranOrder, f_isRun, f_ended, f_stepCount, f_now, a_lineKind, a_lineA, a_lineB, a_lineC, a_lineD, a_openLine, a_start, a_nodeKind, a_nodeNumber, a_firstEdge, a_edgeTo, a_edgeInput, a_nextEdge, a_current, a_keptFirst, a_keptSecond, a_openIs, a_hasOther, a_tagLoop, a_tagRound, a_tagAround, a_waitNode, a_waitTag, a_waitValue, a_waitInput, a_readyNode, a_readyTag, a_readyA, a_readyB, a_readyInput, a_result, a_resultTime, a_stepsAt⟩ := u
    exact br_t (by decide) (H _ h)
  | succ m ih =>
    intro x hx n hn u h
    obtain ⟨n, rfl⟩ : ∃ n', n = n' + 1 := ⟨n - 1, by omega⟩
    obtain ⟨f_lines, f_opened, f_nodes, f_edges, f_depth, f_tags, f_readyFrom, f_readyTo, f_ranOrder, f_isRun, f_ended, f_stepCount, f_now, a_lineKind, a_lineA, a_lineB, a_lineC, a_lineD, a_openLine, a_start, a_nodeKind, a_nodeNumber, a_firstEdge, a_edgeTo, a_edgeInput, a_nextEdge, a_current, a_keptFirst, a_keptSecond, a_openIs, a_hasOther, a_tagLoop, a_tagRound, a_tagAround, a_waitNode, a_waitTag, a_waitValue, a_waitInput, a_readyNode, a_readyTag, a_readyA, a_readyB, a_readyInput, a_result, a_resultTime, a_stepsAt⟩ := u
    obtain ⟨⟨hp, hg, hcu, hd, hkk⟩, hkf, hkt⟩ := h
    have h5 : x < 5 := by omega
    have hxi : vp_in (nI x) 5 := vp_in_nI h5 (by decide)
    have hxc : (nI x).toNatClampNeg = x := nI_clamp (by omega)
    have hlen : ((cf_dch i f x).map (cf_E c) ++ L0).length < 690 := by
      rw [List.length_append, List.length_map, (cf_dch_n _ _ _).2]; omega
    have hcx : a_current x = nI (cur0 x) := by
      rw [hcu x h5, ti_f (Nat.le_refl _)]
    obtain ⟨hk1, hk2⟩ := hk x h5
    refine br_f (lt5' x h5) ?_
    refine xs_node hg (by omega) hk1.symm hk2.symm fun f1 nk nn fe g1 => ?_
    refine And.intro hxi ?_
    refine xs_edge g1 (o := cur0 x) (n := N0 + x) (j := 0) (by rw [hxc]; exact hcx) rfl rfl (by omega) (by have := hc x h5; omega) (by omega) fun f2 fe2 et2 ei2 ne2 g2 => ?_
    refine xs_edge g2 (o := cur0 v0) (n := N0 + x) (j := 1) rfl rfl rfl (by omega) (by have := hc v0 hv; omega) (by rw [List.length_cons]; omega) fun f3 fe3 et3 ei3 ne3 g3 => ?_
    have e2 : (2 : Int32) * nI (N0 + x) = nI (2 * (N0 + x)) := pk_mul 2 _
    have e5 : (5 : Int32) * f_depth + nI x = nI (5 * stk.length + x) := by
      rw [hd, show (5 : Int32) * nI stk.length = nI (5 * stk.length) from pk_mul 5 _, nI_add]
    refine And.intro hxi (nm_r (e' := upd a_current x (nI (2 * (N0 + x)))) (by rw [hxc, e2]) (And.intro (by rw [e5]; exact vp_in_nI (by omega) (by decide)) (nm_r (e' := upd a_keptSecond (5 * stk.length + x) (nI (2 * (N0 + x) + 1))) (by rw [e5, nI_clamp (by omega), e2, nI_1]) (nm_r (e' := nI (x + 1)) (nI_1 x) ?_))))
    refine ih (x + 1) (by omega) n (by omega) (f_lines, f_opened, f1, f3, f_depth, f_tags, f_readyFrom, f_readyTo, f_ranOrder, f_isRun, f_ended, f_stepCount, f_now, a_lineKind, a_lineA, a_lineB, a_lineC, a_lineD, a_openLine, a_start, nk, nn, fe3, et3, ei3, ne3, upd a_current x (nI (2 * (N0 + x))), a_keptFirst, upd a_keptSecond (5 * stk.length + x) (nI (2 * (N0 + x) + 1)), a_openIs, a_hasOther, a_tagLoop, a_tagRound, a_tagAround, a_waitNode, a_waitTag, a_waitValue, a_waitInput, a_readyNode, a_readyTag, a_readyA, a_readyB, a_readyInput, a_result, a_resultTime, a_stepsAt) ?_
    refine And.intro (And.intro hp (And.intro ?_ (And.intro ?_ (And.intro hd ?_)))) (And.intro hkf ?_)
    · show gp_I c _ _ _ _ _ _ _ _ _ _
      rw [cf_dch, List.map_cons, List.map_cons, (hE x h5).1, (hE x h5).2]
      exact g3
    · exact ti_s0 hcu
    · exact tr_k_u stk (fun _ _ => rfl) (fun d hd' => ⟨rfl, pk_un (by omega)⟩) (fun _ _ _ _ => rfl) hkk
    · intro y hy
      by_cases hyx : y = x
      · subst hyx
        rw [pk_us]
      · rw [pk_un (by omega)]
        exact hkt y (by omega)
end
end
section
/-! X translates a line -/
def tl_I (c : CF) (fo : Int32) (fl : Nat → Int32) (i : Nat) (u : SX) : Prop := tr_I c fo fl ((cf_gd c i).map (cf_E c)) (cf_nb c i) (cf_La c i) (cf_st c i) (cf_ks c i) u
section
variable {c : CF} {fo : Int32} {fl : Nat → Int32}
variable {f_lines f_opened f_nodes f_edges f_depth f_tags f_readyFrom f_readyTo f_ranOrder f_isRun f_ended f_stepCount f_now : Int32} {a_lineKind a_lineA a_lineB a_lineC a_lineD a_openLine a_start a_nodeKind a_nodeNumber a_firstEdge a_edgeTo a_edgeInput a_nextEdge a_current a_keptFirst a_keptSecond a_openIs a_hasOther a_tagLoop a_tagRound a_tagAround a_waitNode a_waitTag a_waitValue a_waitInput a_readyNode a_readyTag a_readyA a_readyB a_readyInput a_result a_resultTime a_stepsAt : Nat → Int32}
theorem px_el (h : px_I c fo fl (f_lines, f_opened, f_nodes, f_edges, f_depth, f_tags, f_readyFrom, f_readyTo, f_ranOrder, f_isRun, f_ended, f_stepCount, f_now, a_lineKind, a_lineA, a_lineB, a_lineC, a_lineD, a_openLine, a_start, a_nodeKind, a_nodeNumber, a_firstEdge, a_edgeTo, a_edgeInput, a_nextEdge, a_current, a_keptFirst, a_keptSecond, a_openIs, a_hasOther, a_tagLoop, a_tagRound, a_tagAround, a_waitNode, a_waitTag, a_waitValue, a_waitInput, a_readyNode, a_readyTag, a_readyA, a_readyB, a_readyInput, a_result, a_resultTime, a_stepsAt)) : f_lines = nI (cf_n c) ∧ f_opened = fo ∧ a_lineKind = c.2.1 ∧ a_lineA = c.2.2.1 ∧ a_lineB = c.2.2.2.1 ∧ a_lineC = c.2.2.2.2.1 ∧ a_lineD = c.2.2.2.2.2.1 ∧ a_openLine = fl ∧ a_start = c.2.2.2.2.2.2 := h
theorem px_mk (h : f_lines = nI (cf_n c) ∧ f_opened = fo ∧ a_lineKind = c.2.1 ∧ a_lineA = c.2.2.1 ∧ a_lineB = c.2.2.2.1 ∧ a_lineC = c.2.2.2.2.1 ∧ a_lineD = c.2.2.2.2.2.1 ∧ a_openLine = fl ∧ a_start = c.2.2.2.2.2.2) : px_I c fo fl (f_lines, f_opened, f_nodes, f_edges, f_depth, f_tags, f_readyFrom, f_readyTo, f_ranOrder, f_isRun, f_ended, f_stepCount, f_now, a_lineKind, a_lineA, a_lineB, a_lineC, a_lineD, a_openLine, a_start, a_nodeKind, a_nodeNumber, a_firstEdge, a_edgeTo, a_edgeInput, a_nextEdge, a_current, a_keptFirst, a_keptSecond, a_openIs, a_hasOther, a_tagLoop, a_tagRound, a_tagAround, a_waitNode, a_waitTag, a_waitValue, a_waitInput, a_readyNode, a_readyTag, a_readyA, a_readyB, a_readyInput, a_result, a_resultTime, a_stepsAt) := h
theorem gx_el {L : List (Nat × Nat × Nat)} {N : Nat} (h : gx_I c L N (f_lines, f_opened, f_nodes, f_edges, f_depth, f_tags, f_readyFrom, f_readyTo, f_ranOrder, f_isRun, f_ended, f_stepCount, f_now, a_lineKind, a_lineA, a_lineB, a_lineC, a_lineD, a_openLine, a_start, a_nodeKind, a_nodeNumber, a_firstEdge, a_edgeTo, a_edgeInput, a_nextEdge, a_current, a_keptFirst, a_keptSecond, a_openIs, a_hasOther, a_tagLoop, a_tagRound, a_tagAround, a_waitNode, a_waitTag, a_waitValue, a_waitInput, a_readyNode, a_readyTag, a_readyA, a_readyB, a_readyInput, a_result, a_resultTime, a_stepsAt)) : gp_I c L N f_nodes f_edges a_nodeKind a_nodeNumber a_firstEdge a_edgeTo a_edgeInput a_nextEdge := h
theorem gx_mk {L : List (Nat × Nat × Nat)} {N : Nat} (h : gp_I c L N f_nodes f_edges a_nodeKind a_nodeNumber a_firstEdge a_edgeTo a_edgeInput a_nextEdge) : gx_I c L N (f_lines, f_opened, f_nodes, f_edges, f_depth, f_tags, f_readyFrom, f_readyTo, f_ranOrder, f_isRun, f_ended, f_stepCount, f_now, a_lineKind, a_lineA, a_lineB, a_lineC, a_lineD, a_openLine, a_start, a_nodeKind, a_nodeNumber, a_firstEdge, a_edgeTo, a_edgeInput, a_nextEdge, a_current, a_keptFirst, a_keptSecond, a_openIs, a_hasOther, a_tagLoop, a_tagRound, a_tagAround, a_waitNode, a_waitTag, a_waitValue, a_waitInput, a_readyNode, a_readyTag, a_readyA, a_readyB, a_readyInput, a_result, a_resultTime, a_stepsAt) := h
theorem xs_choosers {post : SX → Prop} {i f N0 v0 : Nat} {L0 : List (Nat × Nat × Nat)} {cur0 : Nat → Nat} {stk : List Nat} {ks : Nat → Nat → Nat} {kf : Nat → Int32}
    (hs : stk.length < 4) (hN : N0 ≤ 310) (hL : L0.length < 680) (hv : v0 < 5) (hc : ∀ y, y < 5 → cur0 y < 2 * N0)
    (hE : ∀ x, x < 5 → cf_E c (i, f, x, 0) = (cur0 x, N0 + x, 0) ∧ cf_E c (i, f, x, 1) = (cur0 v0, N0 + x, 1))
    (hk : ∀ x, x < 5 → cf_kk c (cf_n c) (N0 + x) = 4 ∧ cf_nn c (cf_n c) (N0 + x) = 0)
    (H : ∀ u, ch_I c fo fl i f N0 L0 cur0 stk ks kf 5 u → post u) (u : SX) (h : tr_I c fo fl L0 N0 cur0 stk ks u) (hkf : match u with | (f_lines, f_opened, f_nodes, f_edges, f_depth, f_tags, f_readyFrom, f_readyTo, f_ranOrder, f_isRun, f_ended, f_stepCount, f_now, a_lineKind, a_lineA, a_lineB, a_lineC, a_lineD, a_openLine, a_start, a_nodeKind, a_nodeNumber, a_firstEdge, a_edgeTo, a_edgeInput, a_nextEdge, a_current, a_keptFirst, a_keptSecond, a_openIs, a_hasOther, a_tagLoop, a_tagRound, a_tagAround, a_waitNode, a_waitTag, a_waitValue, a_waitInput, a_readyNode, a_readyTag, a_readyA, a_readyB, a_readyInput, a_result, a_resultTime, a_stepsAt) => a_keptFirst = kf) : wpX_choosers post u (nI v0) := by
  obtain ⟨f_lines, f_opened, f_nodes, f_edges, f_depth, f_tags, f_readyFrom, f_readyTo, f_ranOrder, f_isRun, f_ended, f_stepCount, f_now, a_lineKind, a_lineA, a_lineB, a_lineC, a_lineD, a_openLine, a_start, a_nodeKind, a_nodeNumber, a_firstEdge, a_edgeTo, a_edgeInput, a_nextEdge, a_current, a_keptFirst, a_keptSecond, a_openIs, a_hasOther, a_tagLoop, a_tagRound, a_tagAround, a_waitNode, a_waitTag, a_waitValue, a_waitInput, a_readyNode, a_readyTag, a_readyA, a_readyB, a_readyInput, a_result, a_resultTime, a_stepsAt⟩ := u
  obtain ⟨hp, hg, hcu, hd, hkk⟩ := h
  refine And.intro (vp_in_nI hv (by decide)) (nm_r (e' := nI (cur0 v0)) (by rw [nI_clamp (by omega)]; exact hcu v0 hv) ⟨6, ?_⟩)
  refine xs_ch hs hN hL hv hc hE hk H 5 0 rfl 6 (by omega) (f_lines, f_opened, f_nodes, f_edges, f_depth, f_tags, f_readyFrom, f_readyTo, f_ranOrder, f_isRun, f_ended, f_stepCount, f_now, a_lineKind, a_lineA, a_lineB, a_lineC, a_lineD, a_openLine, a_start, a_nodeKind, a_nodeNumber, a_firstEdge, a_edgeTo, a_edgeInput, a_nextEdge, a_current, a_keptFirst, a_keptSecond, a_openIs, a_hasOther, a_tagLoop, a_tagRound, a_tagAround, a_waitNode, a_waitTag, a_waitValue, a_waitInput, a_readyNode, a_readyTag, a_readyA, a_readyB, a_readyInput, a_result, a_resultTime, a_stepsAt) ?_
  exact And.intro (And.intro hp (And.intro hg (And.intro (fun y hy => hcu y hy) (And.intro hd hkk)))) (And.intro hkf fun y hy => absurd hy (Nat.not_lt_zero _))
theorem cf_len (k : cf_ok c) {i : Nat} (hi : i < cf_n c) : ((cf_gd c i).map (cf_E c)).length < 300 ∧ cf_nb c i ≤ 200 := by
  have h1 := (cf_gd_n k i (by omega)).2
  have h2 := cf_nb_le (c := c) i
  have h3 := k.1.1
  rw [List.length_map]
  omega
theorem xl_when (k : cf_ok c) {i : Nat} (hi : i < cf_n c) (hk : cf_kd c i = 2) {post : SX → Prop} (H : ∀ u, tl_I c fo fl (i + 1) u → post u) (u : SX) (h : tl_I c fo fl i u) : wpX_openWhen post u (nI i) := by
  obtain ⟨f_lines, f_opened, f_nodes, f_edges, f_depth, f_tags, f_readyFrom, f_readyTo, f_ranOrder, f_isRun, f_ended, f_stepCount, f_now, a_lineKind, a_lineA, a_lineB, a_lineC, a_lineD, a_openLine, a_start, a_nodeKind, a_nodeNumber, a_firstEdge, a_edgeTo, a_edgeInput, a_nextEdge, a_current, a_keptFirst, a_keptSecond, a_openIs, a_hasOther, a_tagLoop, a_tagRound, a_tagAround, a_waitNode, a_waitTag, a_waitValue, a_waitInput, a_readyNode, a_readyTag, a_readyA, a_readyB, a_readyInput, a_result, a_resultTime, a_stepsAt⟩ := u
  have hp := h.1
  have hl := k.1.2 i hi
  obtain ⟨l1, l2⟩ := hl.2.2.1 (by omega) (by omega)
  have h4 := hl.2.2.2.2.2.2 (Or.inl hk)
  have h20 := k.1.1
  obtain ⟨n1, n2⟩ := cf_len k hi
  have e : a_lineA (nI i).toNatClampNeg = nI (cf_va c i) := by rw [nI_clamp (by omega), hp.2.2.2.1]; exact l1
  have ek := cf_ek_s (f := 0) hi (by omega : cf_kd c i < 4)
  rw [hk] at ek
  refine And.intro (vp_in_nI (by omega) (by decide)) ?_
  rw [e]
  refine xs_choosers (i := i) (f := 0) (kf := a_keptFirst) h4 (by omega) (by omega) (by omega) (fun y hy => cf_La_lt k hy i (by omega)) ?_ ?_ ?_ (f_lines, f_opened, f_nodes, f_edges, f_depth, f_tags, f_readyFrom, f_readyTo, f_ranOrder, f_isRun, f_ended, f_stepCount, f_now, a_lineKind, a_lineA, a_lineB, a_lineC, a_lineD, a_openLine, a_start, a_nodeKind, a_nodeNumber, a_firstEdge, a_edgeTo, a_edgeInput, a_nextEdge, a_current, a_keptFirst, a_keptSecond, a_openIs, a_hasOther, a_tagLoop, a_tagRound, a_tagAround, a_waitNode, a_waitTag, a_waitValue, a_waitInput, a_readyNode, a_readyTag, a_readyA, a_readyB, a_readyInput, a_result, a_resultTime, a_stepsAt) h rfl
  · intro x hx
    constructor
    · simp only [cf_E, cf_sv, cf_nd, ek, if_true]; rfl
    · simp only [cf_E, cf_sv, cf_nd, ek]; rfl
  · intro x hx
    obtain ⟨a, b⟩ := cf_kk_n (c := c) (i := i) (s := x) (by rw [cf_wd5 (Or.inl hk)]; exact hx) hi
    rw [a, b]
    constructor
    · rw [cf_NK, if_neg (by omega), if_neg (by omega), if_pos hk]
    · rw [cf_NN, if_neg (by omega), if_neg (by omega)]
  · intro u h
    obtain ⟨f_lines, f_opened, f_nodes, f_edges, f_depth, f_tags, f_readyFrom, f_readyTo, f_ranOrder, f_isRun, f_ended, f_stepCount, f_now, a_lineKind, a_lineA, a_lineB, a_lineC, a_lineD, a_openLine, a_start, a_nodeKind, a_nodeNumber, a_firstEdge, a_edgeTo, a_edgeInput, a_nextEdge, a_current, a_keptFirst, a_keptSecond, a_openIs, a_hasOther, a_tagLoop, a_tagRound, a_tagAround, a_waitNode, a_waitTag, a_waitValue, a_waitInput, a_readyNode, a_readyTag, a_readyA, a_readyB, a_readyInput, a_result, a_resultTime, a_stepsAt⟩ := u
    obtain ⟨⟨hp, hg, hcu, hd, hkk⟩, hkf, hkt⟩ := h
    have hdi : vp_in f_depth 4 := by rw [hd]; exact vp_in_nI h4 (by decide)
    have hdc : f_depth.toNatClampNeg = (cf_st c i).length := by rw [hd]; exact nI_clamp (by omega)
    refine And.intro hdi (nm_r (e' := upd a_openIs (cf_st c i).length 2) (by rw [hdc]) (And.intro hdi (nm_e (nm_r (e' := nI ((cf_st c i).length + 1)) (by rw [hd]; exact nI_1 _) ?_))))
    refine H _ (And.intro (px_mk (px_el hp)) (And.intro ?_ (And.intro ?_ (And.intro ?_ ?_))))
    · show gp_I c _ _ _ _ _ _ _ _ _ _
      rw [cf_gd, cf_dl, if_neg (by omega), if_neg (by omega), if_pos hk, List.map_append, cf_nb, cf_wd5 (Or.inl hk)]
      exact hg
    · intro x hx
      rw [cf_La_2 (Or.inl hk), hcu x hx, ti_t hx]
    · rw [cf_st_c (Or.inl hk)]; rfl
    · rw [cf_st_c (Or.inl hk)]
      refine And.intro (by rw [pk_us, hk]; rfl) (And.intro ?_ (And.intro (fun z => by omega) ?_))
      · intro x hx
        rw [hkt x hx, cf_ks_s (Or.inl (by omega)), cf_ks, if_neg (by omega)]
        have : cf_oth c i i = none := by
          cases z : cf_oth c i i with
          | none => rfl
          | some m =>
            obtain ⟨a1, a2, a3⟩ := cf_oth_s _ _ _ z
            have := (cf_head a3).2.1
            omega
        rw [this]
      · refine tr_k_u _ (fun d hd' => pk_un (by omega)) (fun _ _ => ⟨rfl, rfl⟩) (fun j hj x hx => cf_ks_s (Or.inl (by omega))) hkk
/-! otherwise -/
def ux_bo (post : SX → Prop) (x1 : Int32) (n : Nat) (x2 : Int32) (u : SX) : Prop := match u with
  | (f_lines, f_opened, f_nodes, f_edges, f_depth, f_tags, f_readyFrom, f_readyTo, f_ranOrder, f_isRun, f_ended, f_stepCount, f_now, a_lineKind, a_lineA, a_lineB, a_lineC, a_lineD, a_openLine, a_start, a_nodeKind, a_nodeNumber, a_firstEdge, a_edgeTo, a_edgeInput, a_nextEdge, a_current, a_keptFirst, a_keptSecond, a_openIs, a_hasOther, a_tagLoop, a_tagRound, a_tagAround, a_waitNode, a_waitTag, a_waitValue, a_waitInput, a_readyNode, a_readyTag, a_readyA, a_readyB, a_readyInput, a_result, a_resultTime, a_stepsAt) => wX_beginOther_11 post x1 f_lines f_opened f_nodes f_edges f_depth f_tags f_readyFrom f_readyTo f_ranOrder f_isRun f_ended f_stepCount f_now n x2 a_lineKind a_lineA a_lineB a_lineC a_lineD a_openLine a_start a_nodeKind a_nodeNumber a_firstEdge a_edgeTo a_edgeInput a_nextEdge a_current a_keptFirst a_keptSecond a_openIs a_hasOther a_tagLoop a_tagRound a_tagAround a_waitNode a_waitTag a_waitValue a_waitInput a_readyNode a_readyTag a_readyA a_readyB a_readyInput a_result a_resultTime a_stepsAt
def bo_I (c : CF) (fo : Int32) (fl : Nat → Int32) (L : List (Nat × Nat × Nat)) (N : Nat) (cur0 ks0 : Nat → Nat) (j : Nat) (r : List Nat) (ks : Nat → Nat → Nat) (x : Nat) (u : SX) : Prop := px_I c fo fl u ∧ gx_I c L N u ∧ (match u with
  | (f_lines, f_opened, f_nodes, f_edges, f_depth, f_tags, f_readyFrom, f_readyTo, f_ranOrder, f_isRun, f_ended, f_stepCount, f_now, a_lineKind, a_lineA, a_lineB, a_lineC, a_lineD, a_openLine, a_start, a_nodeKind, a_nodeNumber, a_firstEdge, a_edgeTo, a_edgeInput, a_nextEdge, a_current, a_keptFirst, a_keptSecond, a_openIs, a_hasOther, a_tagLoop, a_tagRound, a_tagAround, a_waitNode, a_waitTag, a_waitValue, a_waitInput, a_readyNode, a_readyTag, a_readyA, a_readyB, a_readyInput, a_result, a_resultTime, a_stepsAt) => (∀ y, y < 5 → a_current y = nI (ti x ks0 cur0 y)) ∧ f_depth = nI (r.length + 1) ∧ a_openIs r.length = nI (cf_kd c j) ∧ (∀ y, y < 5 → a_keptSecond (5 * r.length + y) = nI (ti x cur0 ks0 y)) ∧ tr_k c ks a_openIs a_keptFirst a_keptSecond r)
theorem xs_bo {post : SX → Prop} {L : List (Nat × Nat × Nat)} {N : Nat} {cur0 ks0 : Nat → Nat} {j : Nat} {r : List Nat} {ks : Nat → Nat → Nat} (hr : r.length < 4)
    (H : ∀ u, bo_I c fo fl L N cur0 ks0 j r ks 5 u → post u) :
    ∀ m x, x + m = 5 → ∀ n, m < n → ∀ u, bo_I c fo fl L N cur0 ks0 j r ks x u → ux_bo post (nI (5 * r.length)) n (nI x) u := by
  intro m
  induction m with
  | zero =>
    intro x hx n hn u h
    obtain ⟨n, rfl⟩ : ∃ n', n = n' + 1 := ⟨n - 1, by omega⟩
    have : x = 5 := by omega
    subst this
    obtain ⟨f_lines, f_opened, f_nodes, f_edges, f_depth, f_tags, f_readyFrom, f_readyTo, f_ranOrder, f_isRun, f_ended, f_stepCount, f_now, a_lineKind, a_lineA, a_lineB, a_lineC, a_lineD, a_openLine, a_start, a_nodeKind, a_nodeNumber, a_firstEdge, a_edgeTo, a_edgeInput, a_nextEdge, a_current, a_keptFirst, a_keptSecond, a_openIs, a_hasOther, a_tagLoop, a_tagRound, a_tagAround, a_waitNode, a_waitTag, a_waitValue, a_waitInput, a_readyNode, a_readyTag, a_readyA, a_readyB, a_readyInput, a_result, a_resultTime, a_stepsAt⟩ := u
    obtain ⟨hp, hg, hcu, hd, ho, hkt, hkk⟩ := h
    refine br_t (by decide) (And.intro (by rw [hd, nI_pred]; exact vp_in_nI hr (by decide)) (nm_e (H _ ?_)))
    exact And.intro (px_mk (px_el hp)) (And.intro (gx_mk (gx_el hg)) (And.intro hcu (And.intro hd (And.intro ho (And.intro hkt hkk)))))
  | succ m ih =>
    intro x hx n hn u h
    obtain ⟨n, rfl⟩ : ∃ n', n = n' + 1 := ⟨n - 1, by omega⟩
    obtain ⟨f_lines, f_opened, f_nodes, f_edges, f_depth, f_tags, f_readyFrom, f_readyTo, f_ranOrder, f_isRun, f_ended, f_stepCount, f_now, a_lineKind, a_lineA, a_lineB, a_lineC, a_lineD, a_openLine, a_start, a_nodeKind, a_nodeNumber, a_firstEdge, a_edgeTo, a_edgeInput, a_nextEdge, a_current, a_keptFirst, a_keptSecond, a_openIs, a_hasOther, a_tagLoop, a_tagRound, a_tagAround, a_waitNode, a_waitTag, a_waitValue, a_waitInput, a_readyNode, a_readyTag, a_readyA, a_readyB, a_readyInput, a_result, a_resultTime, a_stepsAt⟩ := u
    obtain ⟨hp, hg, hcu, hd, ho, hkt, hkk⟩ := h
    have h5 : x < 5 := by omega
    have hxi : vp_in (nI x) 5 := vp_in_nI h5 (by decide)
    have hxc : (nI x).toNatClampNeg = x := nI_clamp (by omega)
    have e5 : nI (5 * r.length) + nI x = nI (5 * r.length + x) := nI_add _ _
    have hki : vp_in (nI (5 * r.length) + nI x) 20 := by rw [e5]; exact vp_in_nI (by omega) (by decide)
    have hkc : (nI (5 * r.length) + nI x).toNatClampNeg = 5 * r.length + x := by rw [e5]; exact nI_clamp (by omega)
    have c1 : a_current x = nI (cur0 x) := by rw [hcu x h5, ti_f (Nat.le_refl _)]
    have c2 : a_keptSecond (5 * r.length + x) = nI (ks0 x) := by rw [hkt x h5, ti_f (Nat.le_refl _)]
    refine br_f (lt5' x h5) (And.intro hxi (nm_r (e' := nI (cur0 x)) (by rw [hxc, c1]) (And.intro hki (And.intro hxi (nm_r (e' := upd a_current x (nI (ks0 x))) (by rw [hxc, hkc, c2]) (And.intro hki (nm_r (e' := upd a_keptSecond (5 * r.length + x) (nI (cur0 x))) (by rw [hkc]) (nm_r (e' := nI (x + 1)) (nI_1 x) ?_))))))))
    refine ih (x + 1) (by omega) n (by omega) (f_lines, f_opened, f_nodes, f_edges, f_depth, f_tags, f_readyFrom, f_readyTo, f_ranOrder, f_isRun, f_ended, f_stepCount, f_now, a_lineKind, a_lineA, a_lineB, a_lineC, a_lineD, a_openLine, a_start, a_nodeKind, a_nodeNumber, a_firstEdge, a_edgeTo, a_edgeInput, a_nextEdge, upd a_current x (nI (ks0 x)), a_keptFirst, upd a_keptSecond (5 * r.length + x) (nI (cur0 x)), a_openIs, a_hasOther, a_tagLoop, a_tagRound, a_tagAround, a_waitNode, a_waitTag, a_waitValue, a_waitInput, a_readyNode, a_readyTag, a_readyA, a_readyB, a_readyInput, a_result, a_resultTime, a_stepsAt) ?_
    refine And.intro (px_mk (px_el hp)) (And.intro (gx_mk (gx_el hg)) (And.intro ?_ (And.intro hd (And.intro ho (And.intro ?_ ?_)))))
    · exact ti_s0 hcu
    · exact ti_s hkt
    · exact tr_k_u r (fun _ _ => rfl) (fun d hd' => ⟨rfl, pk_un (by omega)⟩) (fun _ _ _ _ => rfl) hkk
theorem xl_oth (k : cf_ok c) {i : Nat} (hi : i < cf_n c) (hk : cf_kd c i = 3) {post : SX → Prop} (H : ∀ u, tl_I c fo fl (i + 1) u → post u) (u : SX) (h : tl_I c fo fl i u) : wpX_beginOther post u := by
  obtain ⟨f_lines, f_opened, f_nodes, f_edges, f_depth, f_tags, f_readyFrom, f_readyTo, f_ranOrder, f_isRun, f_ended, f_stepCount, f_now, a_lineKind, a_lineA, a_lineB, a_lineC, a_lineD, a_openLine, a_start, a_nodeKind, a_nodeNumber, a_firstEdge, a_edgeTo, a_edgeInput, a_nextEdge, a_current, a_keptFirst, a_keptSecond, a_openIs, a_hasOther, a_tagLoop, a_tagRound, a_tagAround, a_waitNode, a_waitTag, a_waitValue, a_waitInput, a_readyNode, a_readyTag, a_readyA, a_readyB, a_readyInput, a_result, a_resultTime, a_stepsAt⟩ := u
  obtain ⟨hp, hg, hcu, hd, hkk⟩ := h
  obtain ⟨a1, a2, a3, a4, a5, a6, a7⟩ := cf_ot_3 k hi hk
  have hlen : (cf_st c (cf_op c i)).length < 4 := (k.1.2 (cf_op c i) (by omega)).2.2.2.2.2.2 (Or.inl a3)
  rw [a5] at hd hkk
  obtain ⟨ho, hkt, _, hkk⟩ := hkk
  have e5 : (5 : Int32) * (f_depth - 1) = nI (5 * (cf_st c (cf_op c i)).length) := by
    rw [hd, List.length_cons, nI_pred]; exact pk_mul 5 _
  refine nm_r e5 ⟨6, ?_⟩
  refine xs_bo (c := c) (fo := fo) (fl := fl) (L := (cf_gd c i).map (cf_E c)) (N := cf_nb c i) (cur0 := cf_La c i) (ks0 := cf_ks c i (cf_op c i)) (j := cf_op c i) (r := cf_st c (cf_op c i)) (ks := cf_ks c i) hlen ?_ 5 0 rfl 6 (by omega) (f_lines, f_opened, f_nodes, f_edges, f_depth, f_tags, f_readyFrom, f_readyTo, f_ranOrder, f_isRun, f_ended, f_stepCount, f_now, a_lineKind, a_lineA, a_lineB, a_lineC, a_lineD, a_openLine, a_start, a_nodeKind, a_nodeNumber, a_firstEdge, a_edgeTo, a_edgeInput, a_nextEdge, a_current, a_keptFirst, a_keptSecond, a_openIs, a_hasOther, a_tagLoop, a_tagRound, a_tagAround, a_waitNode, a_waitTag, a_waitValue, a_waitInput, a_readyNode, a_readyTag, a_readyA, a_readyB, a_readyInput, a_result, a_resultTime, a_stepsAt) ?_
  · intro u h
    obtain ⟨f_lines, f_opened, f_nodes, f_edges, f_depth, f_tags, f_readyFrom, f_readyTo, f_ranOrder, f_isRun, f_ended, f_stepCount, f_now, a_lineKind, a_lineA, a_lineB, a_lineC, a_lineD, a_openLine, a_start, a_nodeKind, a_nodeNumber, a_firstEdge, a_edgeTo, a_edgeInput, a_nextEdge, a_current, a_keptFirst, a_keptSecond, a_openIs, a_hasOther, a_tagLoop, a_tagRound, a_tagAround, a_waitNode, a_waitTag, a_waitValue, a_waitInput, a_readyNode, a_readyTag, a_readyA, a_readyB, a_readyInput, a_result, a_resultTime, a_stepsAt⟩ := u
    obtain ⟨hp, hg, hcu, hd, ho, hkt, hkk⟩ := h
    refine H _ (And.intro (px_mk (px_el hp)) (And.intro ?_ (And.intro ?_ (And.intro ?_ ?_))))
    · show gp_I c _ _ _ _ _ _ _ _ _ _
      rw [cf_gd, cf_dl, if_neg (by omega), if_neg (by omega), if_neg (by omega), if_pos hk, List.nil_append, cf_nb, cf_wd0 hk]
      exact hg
    · intro x hx
      rw [cf_La_3 hk, hcu x hx, ti_t hx, cf_ks, if_neg (by omega), a7]
    · rw [cf_st_s (by omega) (by omega) (by omega), a5]; exact hd
    · rw [cf_st_s (by omega) (by omega) (by omega), a5]
      refine And.intro ho (And.intro ?_ (And.intro (fun z => by omega) ?_))
      · intro x hx
        rw [hkt x hx, ti_t hx, cf_ks, if_neg (by omega)]
        have : cf_oth c (i + 1) (cf_op c i) = some i := by rw [cf_oth, if_pos ⟨hk, a4⟩]
        rw [this]
      · refine tr_k_u _ (fun _ _ => rfl) (fun _ _ => ⟨rfl, rfl⟩) (fun j hj x hx => cf_ks_s (Or.inr ?_)) hkk
        rw [a4]
        intro z
        have := (cf_stm hj).1
        have : cf_op c i = j := Option.some.inj z
        omega
  · exact And.intro hp (And.intro hg (And.intro (fun y hy => hcu y hy) (And.intro hd (And.intro ho (And.intro (fun y hy => hkt y hy) hkk)))))
end
end
section
section
variable {c : CF} {fo : Int32} {fl : Nat → Int32}
variable {f_lines f_opened f_nodes f_edges f_depth f_tags f_readyFrom f_readyTo f_ranOrder f_isRun f_ended f_stepCount f_now : Int32} {a_lineKind a_lineA a_lineB a_lineC a_lineD a_openLine a_start a_nodeKind a_nodeNumber a_firstEdge a_edgeTo a_edgeInput a_nextEdge a_current a_keptFirst a_keptSecond a_openIs a_hasOther a_tagLoop a_tagRound a_tagAround a_waitNode a_waitTag a_waitValue a_waitInput a_readyNode a_readyTag a_readyA a_readyB a_readyInput a_result a_resultTime a_stepsAt : Nat → Int32}
/-! the close of a when -/
def ux_cw (post : SX → Prop) (x1 : Int32) (n : Nat) (x2 : Int32) (u : SX) : Prop := match u with
  | (f_lines, f_opened, f_nodes, f_edges, f_depth, f_tags, f_readyFrom, f_readyTo, f_ranOrder, f_isRun, f_ended, f_stepCount, f_now, a_lineKind, a_lineA, a_lineB, a_lineC, a_lineD, a_openLine, a_start, a_nodeKind, a_nodeNumber, a_firstEdge, a_edgeTo, a_edgeInput, a_nextEdge, a_current, a_keptFirst, a_keptSecond, a_openIs, a_hasOther, a_tagLoop, a_tagRound, a_tagAround, a_waitNode, a_waitTag, a_waitValue, a_waitInput, a_readyNode, a_readyTag, a_readyA, a_readyB, a_readyInput, a_result, a_resultTime, a_stepsAt) => wX_closeWhen_11 post x1 n x2 f_lines f_opened f_nodes f_edges f_depth f_tags f_readyFrom f_readyTo f_ranOrder f_isRun f_ended f_stepCount f_now a_lineKind a_lineA a_lineB a_lineC a_lineD a_openLine a_start a_nodeKind a_nodeNumber a_firstEdge a_edgeTo a_edgeInput a_nextEdge a_current a_keptFirst a_keptSecond a_openIs a_hasOther a_tagLoop a_tagRound a_tagAround a_waitNode a_waitTag a_waitValue a_waitInput a_readyNode a_readyTag a_readyA a_readyB a_readyInput a_result a_resultTime a_stepsAt
def cw_I (c : CF) (fo : Int32) (fl : Nat → Int32) (i jj x : Nat) (u : SX) : Prop :=
  tr_I c fo fl ((cf_dcl i jj x).map (cf_E c) ++ (cf_gd c i).map (cf_E c)) (cf_nb c i + x) (ti x (fun y => 2 * (cf_nb c i + y)) (cf_La c i)) (cf_st c i) (cf_ks c i) u
theorem xs_cw (k : cf_ok c) {i : Nat} (hi : i < cf_n c) (hk : cf_kd c i = 5) (hk2 : cf_kd c (cf_op c i) = 2) {post : SX → Prop} (H : ∀ u, cw_I c fo fl i 0 5 u → post u) :
    ∀ m x, x + m = 5 → ∀ n, m < n → ∀ u, cw_I c fo fl i 0 x u → ux_cw post (nI (5 * (cf_st c (cf_op c i)).length)) n (nI x) u := by
  intro m
  induction m with
  | zero =>
    intro x hx n hn u h
    obtain ⟨n, rfl⟩ : ∃ n', n = n' + 1 := ⟨n - 1, by omega⟩
    have : x = 5 := by omega
    subst this
    obtain ⟨f_lines, f_opened, f_nodes, f_edges, f_depth, f_tags, f_readyFrom, f_readyTo, f_ranOrder, f_isRun, f_ended, f_stepCount, f_now, a_lineKind, a_lineA, a_lineB, a_lineC, a_lineD, a_openLine, a_start, a_nodeKind, a_nodeNumber, a_firstEdge, a_edgeTo, a_edgeInput, a_nextEdge, a_current, a_keptFirst, a_keptSecond, a_openIs, a_hasOther, a_tagLoop, a_tagRound, a_tagAround, a_waitNode, a_waitTag, a_waitValue, a_waitInput, a_readyNode, a_readyTag, a_readyA, a_readyB, a_readyInput, a_result, a_resultTime, a_stepsAt⟩ := u
    exact br_t (by decide) (H _ h)
  | succ m ih =>
    intro x hx n hn u h
    obtain ⟨n, rfl⟩ : ∃ n', n = n' + 1 := ⟨n - 1, by omega⟩
    obtain ⟨f_lines, f_opened, f_nodes, f_edges, f_depth, f_tags, f_readyFrom, f_readyTo, f_ranOrder, f_isRun, f_ended, f_stepCount, f_now, a_lineKind, a_lineA, a_lineB, a_lineC, a_lineD, a_openLine, a_start, a_nodeKind, a_nodeNumber, a_firstEdge, a_edgeTo, a_edgeInput, a_nextEdge, a_current, a_keptFirst, a_keptSecond, a_openIs, a_hasOther, a_tagLoop, a_tagRound, a_tagAround, a_waitNode, a_waitTag, a_waitValue, a_waitInput, a_readyNode, a_readyTag, a_readyA, a_readyB, a_readyInput, a_result, a_resultTime, a_stepsAt⟩ := u
    obtain ⟨hp, hg, hcu, hd, hkk⟩ := h
    obtain ⟨a1, a2, a3, a4, a5⟩ := cf_cl_c k hi hk
    have hlen : (cf_st c (cf_op c i)).length < 4 := (k.1.2 (cf_op c i) (by omega)).2.2.2.2.2.2 (Or.inl hk2)
    have hkt : a_keptSecond (5 * (cf_st c (cf_op c i)).length + x) = nI (cf_ks c i (cf_op c i) x) := by
      rw [a5] at hkk
      exact hkk.2.1 x (by omega)
    obtain ⟨n1, n2⟩ := cf_len k hi
    have h5 : x < 5 := by omega
    have hxi : vp_in (nI x) 5 := vp_in_nI h5 (by decide)
    have hxc : (nI x).toNatClampNeg = x := nI_clamp (by omega)
    have e5 : nI (5 * (cf_st c (cf_op c i)).length) + nI x = nI (5 * (cf_st c (cf_op c i)).length + x) := nI_add _ _
    have hcx : a_current x = nI (cf_La c i x) := by rw [hcu x h5, ti_f (Nat.le_refl _)]
    have hle : ((cf_dcl i 0 x).map (cf_E c) ++ (cf_gd c i).map (cf_E c)).length < 320 := by
      rw [List.length_append, List.length_map, (cf_dcl_n _ _ _).2]; omega
    obtain ⟨hk1, hkn⟩ := cf_kk_n (c := c) (i := i) (s := x) (by rw [cf_wd5 (Or.inr hk)]; exact h5) hi
    have ek0 := cf_ek_6 (f := 0) hi hk hk2
    have ek1 := cf_ek_6 (f := 1) hi hk hk2
    refine br_f (lt5' x h5) ?_
    refine xs_node hg (by omega) (by rw [hk1, cf_NK, if_neg (by omega), if_neg (by omega), if_neg (by omega), if_neg (by omega), if_pos hk2]) (by rw [hkn, cf_NN, if_neg (by omega), if_neg (by omega)]) fun f1 nk nn fe g1 => ?_
    refine And.intro hxi ?_
    refine xs_edge g1 (o := cf_La c i x) (n := cf_nb c i + x) (j := 0) (by rw [hxc]; exact hcx) rfl rfl (by omega) (by have := cf_La_lt k h5 i (by omega); omega) (by omega) fun f2 fe2 et2 ei2 ne2 g2 => ?_
    refine And.intro (by rw [e5]; exact vp_in_nI (by omega) (by decide)) ?_
    refine xs_edge g2 (o := cf_ks c i (cf_op c i) x) (n := cf_nb c i + x) (j := 0) (by rw [e5, nI_clamp (by omega)]; exact hkt) rfl rfl (by omega) (by have := cf_ks_lt k h5 (Nat.le_of_lt hi) (j := cf_op c i) (by rw [a5]; exact List.mem_cons_self ..); omega) (by rw [List.length_cons]; omega) fun f3 fe3 et3 ei3 ne3 g3 => ?_
    have e2 : (2 : Int32) * nI (cf_nb c i + x) = nI (2 * (cf_nb c i + x)) := pk_mul 2 _
    refine And.intro hxi (nm_r (e' := upd a_current x (nI (2 * (cf_nb c i + x)))) (by rw [hxc, e2]) (nm_r (e' := nI (x + 1)) (nI_1 x) ?_))
    refine ih (x + 1) (by omega) n (by omega) (f_lines, f_opened, f1, f3, f_depth, f_tags, f_readyFrom, f_readyTo, f_ranOrder, f_isRun, f_ended, f_stepCount, f_now, a_lineKind, a_lineA, a_lineB, a_lineC, a_lineD, a_openLine, a_start, nk, nn, fe3, et3, ei3, ne3, upd a_current x (nI (2 * (cf_nb c i + x))), a_keptFirst, a_keptSecond, a_openIs, a_hasOther, a_tagLoop, a_tagRound, a_tagAround, a_waitNode, a_waitTag, a_waitValue, a_waitInput, a_readyNode, a_readyTag, a_readyA, a_readyB, a_readyInput, a_result, a_resultTime, a_stepsAt) ?_
    refine And.intro (px_mk (px_el hp)) (And.intro (gx_mk ?_) (And.intro (ti_s0 hcu) (And.intro hd hkk)))
    have E0 : cf_E c (i, 0, x, 0) = (cf_La c i x, cf_nb c i + x, 0) := by simp only [cf_E, cf_sv, cf_nd, ek0, cf_loc_0]
    have E1 : cf_E c (i, 1, x, 0) = (cf_ks c i (cf_op c i) x, cf_nb c i + x, 0) := by
      simp only [cf_E, cf_sv, cf_nd, ek1, cf_loc_1, cf_Lb]
      rw [if_neg (by omega)]
    rw [cf_dcl, List.map_cons, List.map_cons, E0, E1]
    exact g3
theorem cw_end (k : cf_ok c) {i jj : Nat} (hi : i < cf_n c) (hk : cf_kd c i = 5) (hj : cf_in c i 0 = jj) (h : cw_I c fo fl i jj 5 (f_lines, f_opened, f_nodes, f_edges, f_depth, f_tags, f_readyFrom, f_readyTo, f_ranOrder, f_isRun, f_ended, f_stepCount, f_now, a_lineKind, a_lineA, a_lineB, a_lineC, a_lineD, a_openLine, a_start, a_nodeKind, a_nodeNumber, a_firstEdge, a_edgeTo, a_edgeInput, a_nextEdge, a_current, a_keptFirst, a_keptSecond, a_openIs, a_hasOther, a_tagLoop, a_tagRound, a_tagAround, a_waitNode, a_waitTag, a_waitValue, a_waitInput, a_readyNode, a_readyTag, a_readyA, a_readyB, a_readyInput, a_result, a_resultTime, a_stepsAt)) : tl_I c fo fl (i + 1) (f_lines, f_opened, f_nodes, f_edges, f_depth - 1, f_tags, f_readyFrom, f_readyTo, f_ranOrder, f_isRun, f_ended, f_stepCount, f_now, a_lineKind, a_lineA, a_lineB, a_lineC, a_lineD, a_openLine, a_start, a_nodeKind, a_nodeNumber, a_firstEdge, a_edgeTo, a_edgeInput, a_nextEdge, a_current, a_keptFirst, a_keptSecond, a_openIs, a_hasOther, a_tagLoop, a_tagRound, a_tagAround, a_waitNode, a_waitTag, a_waitValue, a_waitInput, a_readyNode, a_readyTag, a_readyA, a_readyB, a_readyInput, a_result, a_resultTime, a_stepsAt) := by
  obtain ⟨hp, hg, hcu, hd, hkk⟩ := h
  obtain ⟨a1, a2, a3, a4, a5⟩ := cf_cl_c k hi hk
  have hst : cf_st c (i + 1) = cf_st c (cf_op c i) := by rw [cf_st_5 hk, a5, List.tail_cons]
  refine And.intro (px_mk (px_el hp)) (And.intro (gx_mk ?_) (And.intro ?_ (And.intro ?_ ?_)))
  · rw [cf_gd, cf_dl, if_neg (by omega), if_neg (by omega), if_neg (by omega), if_neg (by omega), if_neg (by omega), hj, List.map_append, cf_nb, cf_wd5 (Or.inr hk)]
    exact hg
  · intro x hx
    rw [cf_La_2 (Or.inr hk), hcu x hx, ti_t hx]
  · rw [hst, hd, a5, List.length_cons, nI_pred]
  · rw [hst]
    rw [a5] at hkk
    exact tr_k_u _ (fun _ _ => rfl) (fun _ _ => ⟨rfl, rfl⟩) (fun j hj x hx => cf_ks_s (Or.inl (by omega))) hkk.2.2.2
theorem xl_cw (k : cf_ok c) {i : Nat} (hi : i < cf_n c) (hk : cf_kd c i = 5) (hk2 : cf_kd c (cf_op c i) = 2) {post : SX → Prop} (H : ∀ u, cw_I c fo fl i 0 5 u → post u) (u : SX) (h : tl_I c fo fl i u) : wpX_closeWhen post u := by
  obtain ⟨f_lines, f_opened, f_nodes, f_edges, f_depth, f_tags, f_readyFrom, f_readyTo, f_ranOrder, f_isRun, f_ended, f_stepCount, f_now, a_lineKind, a_lineA, a_lineB, a_lineC, a_lineD, a_openLine, a_start, a_nodeKind, a_nodeNumber, a_firstEdge, a_edgeTo, a_edgeInput, a_nextEdge, a_current, a_keptFirst, a_keptSecond, a_openIs, a_hasOther, a_tagLoop, a_tagRound, a_tagAround, a_waitNode, a_waitTag, a_waitValue, a_waitInput, a_readyNode, a_readyTag, a_readyA, a_readyB, a_readyInput, a_result, a_resultTime, a_stepsAt⟩ := u
  obtain ⟨hp, hg, hcu, hd, hkk⟩ := h
  obtain ⟨a1, a2, a3, a4, a5⟩ := cf_cl_c k hi hk
  have e5 : (5 : Int32) * (f_depth - 1) = nI (5 * (cf_st c (cf_op c i)).length) := by
    rw [hd, a5, List.length_cons, nI_pred]; exact pk_mul 5 _
  refine nm_r e5 ⟨6, xs_cw (c := c) (fo := fo) (fl := fl) k hi hk hk2 H 5 0 rfl 6 (by omega) (f_lines, f_opened, f_nodes, f_edges, f_depth, f_tags, f_readyFrom, f_readyTo, f_ranOrder, f_isRun, f_ended, f_stepCount, f_now, a_lineKind, a_lineA, a_lineB, a_lineC, a_lineD, a_openLine, a_start, a_nodeKind, a_nodeNumber, a_firstEdge, a_edgeTo, a_edgeInput, a_nextEdge, a_current, a_keptFirst, a_keptSecond, a_openIs, a_hasOther, a_tagLoop, a_tagRound, a_tagAround, a_waitNode, a_waitTag, a_waitValue, a_waitInput, a_readyNode, a_readyTag, a_readyA, a_readyB, a_readyInput, a_result, a_resultTime, a_stepsAt) ?_⟩
  exact And.intro hp (And.intro hg (And.intro hcu (And.intro hd hkk)))
/-! the close of a loop -/
def ux_cr (post : SX → Prop) (x1 : Int32) (n : Nat) (x2 : Int32) (u : SX) : Prop := match u with
  | (f_lines, f_opened, f_nodes, f_edges, f_depth, f_tags, f_readyFrom, f_readyTo, f_ranOrder, f_isRun, f_ended, f_stepCount, f_now, a_lineKind, a_lineA, a_lineB, a_lineC, a_lineD, a_openLine, a_start, a_nodeKind, a_nodeNumber, a_firstEdge, a_edgeTo, a_edgeInput, a_nextEdge, a_current, a_keptFirst, a_keptSecond, a_openIs, a_hasOther, a_tagLoop, a_tagRound, a_tagAround, a_waitNode, a_waitTag, a_waitValue, a_waitInput, a_readyNode, a_readyTag, a_readyA, a_readyB, a_readyInput, a_result, a_resultTime, a_stepsAt) => wX_closeRepeat_11 post x1 n x2 f_lines f_opened f_nodes f_edges f_depth f_tags f_readyFrom f_readyTo f_ranOrder f_isRun f_ended f_stepCount f_now a_lineKind a_lineA a_lineB a_lineC a_lineD a_openLine a_start a_nodeKind a_nodeNumber a_firstEdge a_edgeTo a_edgeInput a_nextEdge a_current a_keptFirst a_keptSecond a_openIs a_hasOther a_tagLoop a_tagRound a_tagAround a_waitNode a_waitTag a_waitValue a_waitInput a_readyNode a_readyTag a_readyA a_readyB a_readyInput a_result a_resultTime a_stepsAt
theorem xs_cr (k : cf_ok c) {i : Nat} (hi : i < cf_n c) (hk : cf_kd c i = 5) (hk2 : cf_kd c (cf_op c i) = 4) {post : SX → Prop} (H : ∀ u, cw_I c fo fl i 1 5 u → post u) :
    ∀ m x, x + m = 5 → ∀ n, m < n → ∀ u, cw_I c fo fl i 1 x u → ux_cr post (nI (5 * (cf_st c (cf_op c i)).length)) n (nI x) u := by
  intro m
  induction m with
  | zero =>
    intro x hx n hn u h
    obtain ⟨n, rfl⟩ : ∃ n', n = n' + 1 := ⟨n - 1, by omega⟩
    have : x = 5 := by omega
    subst this
    obtain ⟨f_lines, f_opened, f_nodes, f_edges, f_depth, f_tags, f_readyFrom, f_readyTo, f_ranOrder, f_isRun, f_ended, f_stepCount, f_now, a_lineKind, a_lineA, a_lineB, a_lineC, a_lineD, a_openLine, a_start, a_nodeKind, a_nodeNumber, a_firstEdge, a_edgeTo, a_edgeInput, a_nextEdge, a_current, a_keptFirst, a_keptSecond, a_openIs, a_hasOther, a_tagLoop, a_tagRound, a_tagAround, a_waitNode, a_waitTag, a_waitValue, a_waitInput, a_readyNode, a_readyTag, a_readyA, a_readyB, a_readyInput, a_result, a_resultTime, a_stepsAt⟩ := u
    exact br_t (by decide) (H _ h)
  | succ m ih =>
    intro x hx n hn u h
    obtain ⟨n, rfl⟩ : ∃ n', n = n' + 1 := ⟨n - 1, by omega⟩
    obtain ⟨f_lines, f_opened, f_nodes, f_edges, f_depth, f_tags, f_readyFrom, f_readyTo, f_ranOrder, f_isRun, f_ended, f_stepCount, f_now, a_lineKind, a_lineA, a_lineB, a_lineC, a_lineD, a_openLine, a_start, a_nodeKind, a_nodeNumber, a_firstEdge, a_edgeTo, a_edgeInput, a_nextEdge, a_current, a_keptFirst, a_keptSecond, a_openIs, a_hasOther, a_tagLoop, a_tagRound, a_tagAround, a_waitNode, a_waitTag, a_waitValue, a_waitInput, a_readyNode, a_readyTag, a_readyA, a_readyB, a_readyInput, a_result, a_resultTime, a_stepsAt⟩ := u
    obtain ⟨hp, hg, hcu, hd, hkk⟩ := h
    obtain ⟨a1, a2, a3, a4, a5⟩ := cf_cl_c k hi hk
    have hlen : (cf_st c (cf_op c i)).length < 4 := (k.1.2 (cf_op c i) (by omega)).2.2.2.2.2.2 (Or.inr hk2)
    have hkq : a_keptSecond (5 * (cf_st c (cf_op c i)).length + x) = nI (cf_ks c i (cf_op c i) x) ∧ a_keptFirst (5 * (cf_st c (cf_op c i)).length + x) = nI (cf_nb c (cf_op c i) + x) := by
      rw [a5] at hkk
      exact ⟨hkk.2.1 x (by omega), hkk.2.2.1 hk2 x (by omega)⟩
    obtain ⟨hkt, hkf⟩ := hkq
    obtain ⟨n1, n2⟩ := cf_len k hi
    have h5 : x < 5 := by omega
    have hxi : vp_in (nI x) 5 := vp_in_nI h5 (by decide)
    have hxc : (nI x).toNatClampNeg = x := nI_clamp (by omega)
    have e5 : nI (5 * (cf_st c (cf_op c i)).length) + nI x = nI (5 * (cf_st c (cf_op c i)).length + x) := nI_add _ _
    have e5i : vp_in (nI (5 * (cf_st c (cf_op c i)).length) + nI x) 20 := by rw [e5]; exact vp_in_nI (by omega) (by decide)
    have e5c : (nI (5 * (cf_st c (cf_op c i)).length) + nI x).toNatClampNeg = 5 * (cf_st c (cf_op c i)).length + x := by rw [e5]; exact nI_clamp (by omega)
    have hcx : a_current x = nI (cf_La c i x) := by rw [hcu x h5, ti_f (Nat.le_refl _)]
    have hle : ((cf_dcl i 1 x).map (cf_E c) ++ (cf_gd c i).map (cf_E c)).length < 320 := by
      rw [List.length_append, List.length_map, (cf_dcl_n _ _ _).2]; omega
    obtain ⟨hk1, hkn⟩ := cf_kk_n (c := c) (i := i) (s := x) (by rw [cf_wd5 (Or.inr hk)]; exact h5) hi
    obtain ⟨ek0, ek1⟩ := cf_ek_7 hi hk hk2
    refine br_f (lt5' x h5) (And.intro hxi (And.intro e5i ?_))
    refine xs_edge hg (o := cf_La c i x) (n := cf_nb c (cf_op c i) + x) (j := 1) (by rw [hxc]; exact hcx) (by rw [e5c]; exact hkf) rfl (by omega) (by have := cf_La_lt k h5 i (by omega); omega) (by omega) fun f2 fe2 et2 ei2 ne2 g2 => ?_
    refine xs_node g2 (by omega) (by rw [hk1, cf_NK, if_neg (by omega), if_neg (by omega), if_neg (by omega), if_neg (by omega), if_neg (by omega)]) (by rw [hkn, cf_NN, if_neg (by omega), if_neg (by omega)]) fun f1 nk nn fe g1 => ?_
    refine And.intro e5i ?_
    refine xs_edge g1 (o := cf_ks c i (cf_op c i) x) (n := cf_nb c i + x) (j := 0) (by rw [e5c]; exact hkt) rfl rfl (by omega) (by have := cf_ks_lt k h5 (Nat.le_of_lt hi) (j := cf_op c i) (by rw [a5]; exact List.mem_cons_self ..); omega) (by rw [List.length_cons]; omega) fun f3 fe3 et3 ei3 ne3 g3 => ?_
    have e2 : (2 : Int32) * nI (cf_nb c i + x) = nI (2 * (cf_nb c i + x)) := pk_mul 2 _
    refine And.intro hxi (nm_r (e' := upd a_current x (nI (2 * (cf_nb c i + x)))) (by rw [hxc, e2]) (nm_r (e' := nI (x + 1)) (nI_1 x) ?_))
    refine ih (x + 1) (by omega) n (by omega) (f_lines, f_opened, f1, f3, f_depth, f_tags, f_readyFrom, f_readyTo, f_ranOrder, f_isRun, f_ended, f_stepCount, f_now, a_lineKind, a_lineA, a_lineB, a_lineC, a_lineD, a_openLine, a_start, nk, nn, fe3, et3, ei3, ne3, upd a_current x (nI (2 * (cf_nb c i + x))), a_keptFirst, a_keptSecond, a_openIs, a_hasOther, a_tagLoop, a_tagRound, a_tagAround, a_waitNode, a_waitTag, a_waitValue, a_waitInput, a_readyNode, a_readyTag, a_readyA, a_readyB, a_readyInput, a_result, a_resultTime, a_stepsAt) ?_
    refine And.intro (px_mk (px_el hp)) (And.intro (gx_mk ?_) (And.intro (ti_s0 hcu) (And.intro hd hkk)))
    have E0 : cf_E c (i, 0, x, 1) = (cf_La c i x, cf_nb c (cf_op c i) + x, 1) := by simp only [cf_E, cf_sv, cf_nd, ek0, cf_loc_0]
    have E1 : cf_E c (i, 1, x, 0) = (cf_ks c i (cf_op c i) x, cf_nb c i + x, 0) := by
      simp only [cf_E, cf_sv, cf_nd, ek1, cf_loc_1, cf_Lb]
      rw [if_neg (by omega)]
    rw [cf_dcl, List.map_cons, List.map_cons, E0, E1]
    exact g3
theorem xl_cr (k : cf_ok c) {i : Nat} (hi : i < cf_n c) (hk : cf_kd c i = 5) (hk2 : cf_kd c (cf_op c i) = 4) {post : SX → Prop} (H : ∀ u, cw_I c fo fl i 1 5 u → post u) (u : SX) (h : tl_I c fo fl i u) : wpX_closeRepeat post u := by
  obtain ⟨f_lines, f_opened, f_nodes, f_edges, f_depth, f_tags, f_readyFrom, f_readyTo, f_ranOrder, f_isRun, f_ended, f_stepCount, f_now, a_lineKind, a_lineA, a_lineB, a_lineC, a_lineD, a_openLine, a_start, a_nodeKind, a_nodeNumber, a_firstEdge, a_edgeTo, a_edgeInput, a_nextEdge, a_current, a_keptFirst, a_keptSecond, a_openIs, a_hasOther, a_tagLoop, a_tagRound, a_tagAround, a_waitNode, a_waitTag, a_waitValue, a_waitInput, a_readyNode, a_readyTag, a_readyA, a_readyB, a_readyInput, a_result, a_resultTime, a_stepsAt⟩ := u
  obtain ⟨hp, hg, hcu, hd, hkk⟩ := h
  obtain ⟨a1, a2, a3, a4, a5⟩ := cf_cl_c k hi hk
  have e5 : (5 : Int32) * (f_depth - 1) = nI (5 * (cf_st c (cf_op c i)).length) := by
    rw [hd, a5, List.length_cons, nI_pred]; exact pk_mul 5 _
  refine nm_r e5 ⟨6, xs_cr (c := c) (fo := fo) (fl := fl) k hi hk hk2 H 5 0 rfl 6 (by omega) (f_lines, f_opened, f_nodes, f_edges, f_depth, f_tags, f_readyFrom, f_readyTo, f_ranOrder, f_isRun, f_ended, f_stepCount, f_now, a_lineKind, a_lineA, a_lineB, a_lineC, a_lineD, a_openLine, a_start, a_nodeKind, a_nodeNumber, a_firstEdge, a_edgeTo, a_edgeInput, a_nextEdge, a_current, a_keptFirst, a_keptSecond, a_openIs, a_hasOther, a_tagLoop, a_tagRound, a_tagAround, a_waitNode, a_waitTag, a_waitValue, a_waitInput, a_readyNode, a_readyTag, a_readyA, a_readyB, a_readyInput, a_result, a_resultTime, a_stepsAt) ?_⟩
  exact And.intro hp (And.intro hg (And.intro hcu (And.intro hd hkk)))
/-! a loop begins -/
def ux_or (post : SX → Prop) (x1 : Int32) (n : Nat) (x2 : Int32) (u : SX) : Prop := match u with
  | (f_lines, f_opened, f_nodes, f_edges, f_depth, f_tags, f_readyFrom, f_readyTo, f_ranOrder, f_isRun, f_ended, f_stepCount, f_now, a_lineKind, a_lineA, a_lineB, a_lineC, a_lineD, a_openLine, a_start, a_nodeKind, a_nodeNumber, a_firstEdge, a_edgeTo, a_edgeInput, a_nextEdge, a_current, a_keptFirst, a_keptSecond, a_openIs, a_hasOther, a_tagLoop, a_tagRound, a_tagAround, a_waitNode, a_waitTag, a_waitValue, a_waitInput, a_readyNode, a_readyTag, a_readyA, a_readyB, a_readyInput, a_result, a_resultTime, a_stepsAt) => wX_openRepeat_2 post x1 n x2 f_lines f_opened f_nodes f_edges f_depth f_tags f_readyFrom f_readyTo f_ranOrder f_isRun f_ended f_stepCount f_now a_lineKind a_lineA a_lineB a_lineC a_lineD a_openLine a_start a_nodeKind a_nodeNumber a_firstEdge a_edgeTo a_edgeInput a_nextEdge a_current a_keptFirst a_keptSecond a_openIs a_hasOther a_tagLoop a_tagRound a_tagAround a_waitNode a_waitTag a_waitValue a_waitInput a_readyNode a_readyTag a_readyA a_readyB a_readyInput a_result a_resultTime a_stepsAt
def or_I (c : CF) (fo : Int32) (fl : Nat → Int32) (i x : Nat) (u : SX) : Prop :=
  tr_I c fo fl ((cf_dsg i x).map (cf_E c) ++ (cf_gd c i).map (cf_E c)) (cf_nb c i + x) (ti x (fun y => 2 * (cf_nb c i + y)) (cf_La c i)) (cf_st c i) (cf_ks c i) u ∧ (match u with
  | (f_lines, f_opened, f_nodes, f_edges, f_depth, f_tags, f_readyFrom, f_readyTo, f_ranOrder, f_isRun, f_ended, f_stepCount, f_now, a_lineKind, a_lineA, a_lineB, a_lineC, a_lineD, a_openLine, a_start, a_nodeKind, a_nodeNumber, a_firstEdge, a_edgeTo, a_edgeInput, a_nextEdge, a_current, a_keptFirst, a_keptSecond, a_openIs, a_hasOther, a_tagLoop, a_tagRound, a_tagAround, a_waitNode, a_waitTag, a_waitValue, a_waitInput, a_readyNode, a_readyTag, a_readyA, a_readyB, a_readyInput, a_result, a_resultTime, a_stepsAt) => ∀ y, y < x → a_keptFirst (5 * (cf_st c i).length + y) = nI (cf_nb c i + y))
theorem xs_or (k : cf_ok c) {i : Nat} (hi : i < cf_n c) (hk : cf_kd c i = 4) {post : SX → Prop} (H : ∀ u, tl_I c fo fl (i + 1) u → post u) :
    ∀ m x, x + m = 5 → ∀ n, m < n → ∀ u, or_I c fo fl i x u → ux_or post (nI i) n (nI x) u := by
  have h4 := (k.1.2 i hi).2.2.2.2.2.2 (Or.inr hk)
  have h20 := k.1.1
  obtain ⟨n1, n2⟩ := cf_len k hi
  obtain ⟨l1, l2⟩ := (k.1.2 i hi).2.2.1 (by omega) (by omega)
  obtain ⟨ek0, ek1⟩ := cf_ek_4 hi hk
  intro m
  induction m with
  | zero =>
    intro x hx n hn u h
    obtain ⟨n, rfl⟩ : ∃ n', n = n' + 1 := ⟨n - 1, by omega⟩
    have : x = 5 := by omega
    subst this
    obtain ⟨f_lines, f_opened, f_nodes, f_edges, f_depth, f_tags, f_readyFrom, f_readyTo, f_ranOrder, f_isRun, f_ended, f_stepCount, f_now, a_lineKind, a_lineA, a_lineB, a_lineC, a_lineD, a_openLine, a_start, a_nodeKind, a_nodeNumber, a_firstEdge, a_edgeTo, a_edgeInput, a_nextEdge, a_current, a_keptFirst, a_keptSecond, a_openIs, a_hasOther, a_tagLoop, a_tagRound, a_tagAround, a_waitNode, a_waitTag, a_waitValue, a_waitInput, a_readyNode, a_readyTag, a_readyA, a_readyB, a_readyInput, a_result, a_resultTime, a_stepsAt⟩ := u
    obtain ⟨⟨hp, hg, hcu, hd, hkk⟩, hkf⟩ := h
    have hp := px_el hp
    have e : a_lineA (nI i).toNatClampNeg = nI (cf_va c i) := by rw [nI_clamp (by omega), hp.2.2.2.1]; exact l1
    refine br_t (by decide) (And.intro (vp_in_nI (by omega) (by decide)) ?_)
    rw [e]
    refine xs_choosers (c := c) (fo := fo) (fl := fl) (i := i) (f := 1) (N0 := cf_nb c i + 5) (v0 := cf_va c i) (L0 := (cf_dsg i 5).map (cf_E c) ++ (cf_gd c i).map (cf_E c)) (cur0 := fun y => 2 * (cf_nb c i + y)) (stk := cf_st c i) (ks := cf_ks c i) (kf := a_keptFirst) h4 (by omega) ?_ (by omega) (fun y hy => by omega) ?_ ?_ ?_ (f_lines, f_opened, f_nodes, f_edges, f_depth, f_tags, f_readyFrom, f_readyTo, f_ranOrder, f_isRun, f_ended, f_stepCount, f_now, a_lineKind, a_lineA, a_lineB, a_lineC, a_lineD, a_openLine, a_start, a_nodeKind, a_nodeNumber, a_firstEdge, a_edgeTo, a_edgeInput, a_nextEdge, a_current, a_keptFirst, a_keptSecond, a_openIs, a_hasOther, a_tagLoop, a_tagRound, a_tagAround, a_waitNode, a_waitTag, a_waitValue, a_waitInput, a_readyNode, a_readyTag, a_readyA, a_readyB, a_readyInput, a_result, a_resultTime, a_stepsAt) ?_ rfl
    · rw [List.length_append, List.length_map, (cf_dsg_n _ _).2]; omega
    · intro x hx
      constructor
      · simp only [cf_E, cf_sv, cf_nd, ek1, cf_loc_1, cf_Lb_4 hk, if_true, Nat.add_assoc]
      · simp only [cf_E, cf_sv, cf_nd, ek1, cf_loc_1, cf_Lb_4 hk, Nat.add_assoc]; rfl
    · intro x hx
      obtain ⟨a, b⟩ := cf_kk_n (c := c) (i := i) (s := 5 + x) (by rw [cf_wd10 hk]; omega) hi
      rw [Nat.add_assoc, a, b]
      constructor
      · rw [cf_NK, if_neg (by omega), if_neg (by omega), if_neg (by omega), if_pos hk, if_neg (by omega)]
      · rw [cf_NN, if_neg (by omega), if_pos hk, if_neg (by omega)]
    · intro u h
      obtain ⟨f_lines, f_opened, f_nodes, f_edges, f_depth, f_tags, f_readyFrom, f_readyTo, f_ranOrder, f_isRun, f_ended, f_stepCount, f_now, a_lineKind, a_lineA, a_lineB, a_lineC, a_lineD, a_openLine, a_start, a_nodeKind, a_nodeNumber, a_firstEdge, a_edgeTo, a_edgeInput, a_nextEdge, a_current, a_keptFirst, a_keptSecond, a_openIs, a_hasOther, a_tagLoop, a_tagRound, a_tagAround, a_waitNode, a_waitTag, a_waitValue, a_waitInput, a_readyNode, a_readyTag, a_readyA, a_readyB, a_readyInput, a_result, a_resultTime, a_stepsAt⟩ := u
      obtain ⟨⟨hp, hg, hcu, hd, hkk⟩, hkf2, hkt⟩ := h
      have hdi : vp_in f_depth 4 := by rw [hd]; exact vp_in_nI h4 (by decide)
      have hdc : f_depth.toNatClampNeg = (cf_st c i).length := by rw [hd]; exact nI_clamp (by omega)
      refine And.intro hdi (nm_r (e' := upd a_openIs (cf_st c i).length 4) (by rw [hdc]) (nm_r (e' := nI ((cf_st c i).length + 1)) (by rw [hd]; exact nI_1 _) ?_))
      refine H _ (And.intro (px_mk (px_el hp)) (And.intro (gx_mk ?_) (And.intro ?_ (And.intro ?_ ?_))))
      · rw [cf_gd, cf_dl, if_neg (by omega), if_neg (by omega), if_neg (by omega), if_neg (by omega), if_pos hk, List.map_append, List.map_append, List.append_assoc, cf_nb, cf_wd10 hk]
        exact hg
      · intro x hx
        rw [cf_La_4 hk, hcu x hx, ti_t hx, Nat.add_assoc]
      · rw [cf_st_c (Or.inr hk)]; rfl
      · rw [cf_st_c (Or.inr hk)]
        refine And.intro (by rw [pk_us, hk]; rfl) (And.intro ?_ (And.intro (fun _ y hy => by rw [hkf2]; exact hkf y hy) ?_))
        · intro x hx
          rw [hkt x hx, cf_ks, if_pos hk, Nat.add_assoc]
        · refine tr_k_u _ (fun d hd' => pk_un (by omega)) (fun _ _ => ⟨rfl, rfl⟩) (fun j hj x hx => cf_ks_s (Or.inl (by omega))) hkk
    · exact And.intro (px_mk hp) (And.intro (gx_mk (gx_el hg)) (And.intro (fun y hy => by rw [hcu y hy, ti_t hy]) (And.intro hd hkk)))
  | succ m ih =>
    intro x hx n hn u h
    obtain ⟨n, rfl⟩ : ∃ n', n = n' + 1 := ⟨n - 1, by omega⟩
    obtain ⟨f_lines, f_opened, f_nodes, f_edges, f_depth, f_tags, f_readyFrom, f_readyTo, f_ranOrder, f_isRun, f_ended, f_stepCount, f_now, a_lineKind, a_lineA, a_lineB, a_lineC, a_lineD, a_openLine, a_start, a_nodeKind, a_nodeNumber, a_firstEdge, a_edgeTo, a_edgeInput, a_nextEdge, a_current, a_keptFirst, a_keptSecond, a_openIs, a_hasOther, a_tagLoop, a_tagRound, a_tagAround, a_waitNode, a_waitTag, a_waitValue, a_waitInput, a_readyNode, a_readyTag, a_readyA, a_readyB, a_readyInput, a_result, a_resultTime, a_stepsAt⟩ := u
    obtain ⟨⟨hp, hg, hcu, hd, hkk⟩, hkf⟩ := h
    have h5 : x < 5 := by omega
    have hxi : vp_in (nI x) 5 := vp_in_nI h5 (by decide)
    have hxc : (nI x).toNatClampNeg = x := nI_clamp (by omega)
    have hcx : a_current x = nI (cf_La c i x) := by rw [hcu x h5, ti_f (Nat.le_refl _)]
    have hle : ((cf_dsg i x).map (cf_E c) ++ (cf_gd c i).map (cf_E c)).length < 320 := by
      rw [List.length_append, List.length_map, (cf_dsg_n _ _).2]; omega
    obtain ⟨hk1, hkn⟩ := cf_kk_n (c := c) (i := i) (s := x) (by rw [cf_wd10 hk]; omega) hi
    refine br_f (lt5' x h5) ?_
    refine xs_node hg (by omega) (by rw [hk1, cf_NK, if_neg (by omega), if_neg (by omega), if_neg (by omega), if_pos hk, if_pos h5]) (by rw [hkn, cf_NN, if_neg (by omega), if_pos hk, if_pos h5]) fun f1 nk nn fe g1 => ?_
    refine And.intro hxi ?_
    refine xs_edge g1 (o := cf_La c i x) (n := cf_nb c i + x) (j := 0) (by rw [hxc]; exact hcx) rfl rfl (by omega) (by have := cf_La_lt k h5 i (by omega); omega) (by omega) fun f2 fe2 et2 ei2 ne2 g2 => ?_
    have e2 : (2 : Int32) * nI (cf_nb c i + x) = nI (2 * (cf_nb c i + x)) := pk_mul 2 _
    have e5 : (5 : Int32) * f_depth + nI x = nI (5 * (cf_st c i).length + x) := by
      rw [hd, show (5 : Int32) * nI (cf_st c i).length = nI (5 * (cf_st c i).length) from pk_mul 5 _, nI_add]
    refine And.intro hxi (nm_r (e' := upd a_current x (nI (2 * (cf_nb c i + x)))) (by rw [hxc, e2]) (And.intro (by rw [e5]; exact vp_in_nI (by omega) (by decide)) (nm_r (e' := upd a_keptFirst (5 * (cf_st c i).length + x) (nI (cf_nb c i + x))) (by rw [e5, nI_clamp (by omega)]) (nm_r (e' := nI (x + 1)) (nI_1 x) ?_))))
    refine ih (x + 1) (by omega) n (by omega) (f_lines, f_opened, f1, f2, f_depth, f_tags, f_readyFrom, f_readyTo, f_ranOrder, f_isRun, f_ended, f_stepCount, f_now, a_lineKind, a_lineA, a_lineB, a_lineC, a_lineD, a_openLine, a_start, nk, nn, fe2, et2, ei2, ne2, upd a_current x (nI (2 * (cf_nb c i + x))), upd a_keptFirst (5 * (cf_st c i).length + x) (nI (cf_nb c i + x)), a_keptSecond, a_openIs, a_hasOther, a_tagLoop, a_tagRound, a_tagAround, a_waitNode, a_waitTag, a_waitValue, a_waitInput, a_readyNode, a_readyTag, a_readyA, a_readyB, a_readyInput, a_result, a_resultTime, a_stepsAt) ?_
    refine And.intro (And.intro (px_mk (px_el hp)) (And.intro (gx_mk ?_) (And.intro (ti_s0 hcu) (And.intro hd ?_)))) ?_
    · have E0 : cf_E c (i, 0, x, 0) = (cf_La c i x, cf_nb c i + x, 0) := by simp only [cf_E, cf_sv, cf_nd, ek0, cf_loc_0]
      rw [cf_dsg, List.map_cons, E0]
      exact g2
    · exact tr_k_u _ (fun _ _ => rfl) (fun d hd' => ⟨pk_un (by omega), rfl⟩) (fun _ _ _ _ => rfl) hkk
    · intro y hy
      by_cases hyx : y = x
      · subst hyx
        rw [pk_us]
      · rw [pk_un (by omega)]
        exact hkf y (by omega)
theorem xl_or (k : cf_ok c) {i : Nat} (hi : i < cf_n c) (hk : cf_kd c i = 4) {post : SX → Prop} (H : ∀ u, tl_I c fo fl (i + 1) u → post u) (u : SX) (h : tl_I c fo fl i u) : wpX_openRepeat post u (nI i) := by
  obtain ⟨f_lines, f_opened, f_nodes, f_edges, f_depth, f_tags, f_readyFrom, f_readyTo, f_ranOrder, f_isRun, f_ended, f_stepCount, f_now, a_lineKind, a_lineA, a_lineB, a_lineC, a_lineD, a_openLine, a_start, a_nodeKind, a_nodeNumber, a_firstEdge, a_edgeTo, a_edgeInput, a_nextEdge, a_current, a_keptFirst, a_keptSecond, a_openIs, a_hasOther, a_tagLoop, a_tagRound, a_tagAround, a_waitNode, a_waitTag, a_waitValue, a_waitInput, a_readyNode, a_readyTag, a_readyA, a_readyB, a_readyInput, a_result, a_resultTime, a_stepsAt⟩ := u
  obtain ⟨hp, hg, hcu, hd, hkk⟩ := h
  refine ⟨6, xs_or (c := c) (fo := fo) (fl := fl) k hi hk H 5 0 rfl 6 (by omega) (f_lines, f_opened, f_nodes, f_edges, f_depth, f_tags, f_readyFrom, f_readyTo, f_ranOrder, f_isRun, f_ended, f_stepCount, f_now, a_lineKind, a_lineA, a_lineB, a_lineC, a_lineD, a_openLine, a_start, a_nodeKind, a_nodeNumber, a_firstEdge, a_edgeTo, a_edgeInput, a_nextEdge, a_current, a_keptFirst, a_keptSecond, a_openIs, a_hasOther, a_tagLoop, a_tagRound, a_tagAround, a_waitNode, a_waitTag, a_waitValue, a_waitInput, a_readyNode, a_readyTag, a_readyA, a_readyB, a_readyInput, a_result, a_resultTime, a_stepsAt) ?_⟩
  exact And.intro (And.intro hp (And.intro hg (And.intro hcu (And.intro hd hkk)))) fun y hy => absurd hy (Nat.not_lt_zero _)
end
end
section
section
variable {c : CF} {fo : Int32} {fl : Nat → Int32}
variable {f_lines f_opened f_nodes f_edges f_depth f_tags f_readyFrom f_readyTo f_ranOrder f_isRun f_ended f_stepCount f_now : Int32} {a_lineKind a_lineA a_lineB a_lineC a_lineD a_openLine a_start a_nodeKind a_nodeNumber a_firstEdge a_edgeTo a_edgeInput a_nextEdge a_current a_keptFirst a_keptSecond a_openIs a_hasOther a_tagLoop a_tagRound a_tagAround a_waitNode a_waitTag a_waitValue a_waitInput a_readyNode a_readyTag a_readyA a_readyB a_readyInput a_result a_resultTime a_stepsAt : Nat → Int32}
theorem tl_end1 (k : cf_ok c) {i : Nat} (hi : i < cf_n c) (hk : cf_kd c i ≤ 1) {L : List (Nat × Nat × Nat)} (hp : px_I c fo fl (f_lines, f_opened, f_nodes, f_edges, f_depth, f_tags, f_readyFrom, f_readyTo, f_ranOrder, f_isRun, f_ended, f_stepCount, f_now, a_lineKind, a_lineA, a_lineB, a_lineC, a_lineD, a_openLine, a_start, a_nodeKind, a_nodeNumber, a_firstEdge, a_edgeTo, a_edgeInput, a_nextEdge, a_current, a_keptFirst, a_keptSecond, a_openIs, a_hasOther, a_tagLoop, a_tagRound, a_tagAround, a_waitNode, a_waitTag, a_waitValue, a_waitInput, a_readyNode, a_readyTag, a_readyA, a_readyB, a_readyInput, a_result, a_resultTime, a_stepsAt)) (hg : gp_I c L (cf_nb c i + 1) f_nodes f_edges a_nodeKind a_nodeNumber a_firstEdge a_edgeTo a_edgeInput a_nextEdge)
    (hL : L = (cf_dl c i).map (cf_E c) ++ (cf_gd c i).map (cf_E c)) (hcu : ∀ x, x < 5 → a_current x = nI (cf_La c i x)) (hd : f_depth = nI (cf_st c i).length) (hkk : tr_k c (cf_ks c i) a_openIs a_keptFirst a_keptSecond (cf_st c i)) :
    tl_I c fo fl (i + 1) (f_lines, f_opened, f_nodes, f_edges, f_depth, f_tags, f_readyFrom, f_readyTo, f_ranOrder, f_isRun, f_ended, f_stepCount, f_now, a_lineKind, a_lineA, a_lineB, a_lineC, a_lineD, a_openLine, a_start, a_nodeKind, a_nodeNumber, a_firstEdge, a_edgeTo, a_edgeInput, a_nextEdge, upd a_current (cf_va c i) (nI (2 * cf_nb c i)), a_keptFirst, a_keptSecond, a_openIs, a_hasOther, a_tagLoop, a_tagRound, a_tagAround, a_waitNode, a_waitTag, a_waitValue, a_waitInput, a_readyNode, a_readyTag, a_readyA, a_readyB, a_readyInput, a_result, a_resultTime, a_stepsAt) := by
  have hst : cf_st c (i + 1) = cf_st c i := cf_st_s (by omega) (by omega) (by omega)
  refine And.intro (px_mk (px_el hp)) (And.intro (gx_mk ?_) (And.intro ?_ (And.intro ?_ ?_)))
  · rw [cf_gd, List.map_append, cf_nb, cf_wd1 hk, ← hL]
    exact hg
  · intro x hx
    rw [cf_La_1 hk]
    by_cases e : x = cf_va c i
    · rw [if_pos e, e, pk_us]
    · rw [if_neg e, pk_un e]; exact hcu x hx
  · rw [hst]; exact hd
  · rw [hst]
    exact tr_k_u _ (fun _ _ => rfl) (fun _ _ => ⟨rfl, rfl⟩) (fun j hj x hx => cf_ks_s (Or.inl (by omega))) hkk
theorem xl_simple (k : cf_ok c) {i : Nat} (hi : i < cf_n c) (hk : cf_kd c i ≤ 1) {post : SX → Prop} (H : ∀ u, tl_I c fo fl (i + 1) u → post u) (u : SX) (h : tl_I c fo fl i u) : wpX_translateSimple post u (nI i) := by
  obtain ⟨f_lines, f_opened, f_nodes, f_edges, f_depth, f_tags, f_readyFrom, f_readyTo, f_ranOrder, f_isRun, f_ended, f_stepCount, f_now, a_lineKind, a_lineA, a_lineB, a_lineC, a_lineD, a_openLine, a_start, a_nodeKind, a_nodeNumber, a_firstEdge, a_edgeTo, a_edgeInput, a_nextEdge, a_current, a_keptFirst, a_keptSecond, a_openIs, a_hasOther, a_tagLoop, a_tagRound, a_tagAround, a_waitNode, a_waitTag, a_waitValue, a_waitInput, a_readyNode, a_readyTag, a_readyA, a_readyB, a_readyInput, a_result, a_resultTime, a_stepsAt⟩ := u
  obtain ⟨hp, hg, hcu, hd, hkk⟩ := h
  have hp := px_el hp
  obtain ⟨p1, p2, p3, p4, p5, p6, p7, p8, p9⟩ := hp
  have hl := k.1.2 i hi
  obtain ⟨l1, l2⟩ := hl.2.2.1 (by omega) (by omega)
  have h20 := k.1.1
  obtain ⟨n1, n2⟩ := cf_len k hi
  have hii : vp_in (nI i) 20 := vp_in_nI (by omega) (by decide)
  have hic : (nI i).toNatClampNeg = i := nI_clamp (by omega)
  have eA : a_lineA (nI i).toNatClampNeg = nI (cf_va c i) := by rw [hic, p4]; exact l1
  have eAi : vp_in (a_lineA (nI i).toNatClampNeg) 5 := by rw [eA]; exact vp_in_nI (by omega) (by decide)
  have eAc : (a_lineA (nI i).toNatClampNeg).toNatClampNeg = cf_va c i := by rw [eA]; exact nI_clamp (by omega)
  have eK : a_lineKind (nI i).toNatClampNeg = nI (cf_kd c i) := by rw [hic, p3]; exact hl.1
  have eB : a_lineB (nI i).toNatClampNeg = cf_lb c i := by rw [hic, p5]; rfl
  obtain ⟨hk1, hkn⟩ := cf_kk_n (c := c) (i := i) (s := 0) (by rw [cf_wd1 hk]; omega) hi
  rw [Nat.add_zero] at hk1 hkn
  have e2 : (2 : Int32) * nI (cf_nb c i) = nI (2 * cf_nb c i) := pk_mul 2 _
  have e20 : (2 : Int32) = 2 := rfl
  have ek := cf_ek_s (f := 0) hi (by omega : cf_kd c i < 4)
  refine And.intro hii ?_
  by_cases h0 : cf_kd c i = 0
  · rw [h0] at ek eK
    refine br_t eK (And.intro hii ?_)
    refine xs_node hg (by omega) (by rw [hk1, cf_NK, if_pos h0]) (by rw [hkn, cf_NN, if_pos hk, eB]) fun f1 nk nn fe g1 => ?_
    refine xs_edge g1 (o := cf_La c i 4) (n := cf_nb c i) (j := 0) (hcu 4 (by omega)) rfl rfl (by omega) (by have := cf_La_lt k (x := 4) (by omega) i (by omega); omega) (by omega) fun f2 fe2 et2 ei2 ne2 g2 => ?_
    refine And.intro hii (And.intro eAi (nm_r (e' := upd a_current (cf_va c i) (nI (2 * cf_nb c i))) (by rw [eAc, e2]) ?_))
    refine H _ (tl_end1 k hi hk (px_mk ⟨p1, p2, p3, p4, p5, p6, p7, p8, p9⟩) g2 ?_ hcu hd hkk)
    have E0 : cf_E c (i, 0, cf_va c i, 0) = (cf_La c i 4, cf_nb c i, 0) := by simp only [cf_E, cf_sv, cf_nd, ek, cf_loc_0]
    rw [cf_dl, if_pos h0, List.map_cons, E0]
    rfl
  · have h1 : cf_kd c i = 1 := by omega
    rw [h1] at ek eK
    obtain ⟨⟨m1, m2⟩, ⟨m3, m4⟩, m5, m6⟩ := hl.2.2.2.1 h1
    have eC : a_lineC (nI i).toNatClampNeg = nI (cf_vc c i) := by rw [hic, p6]; exact m1
    have eD : a_lineD (nI i).toNatClampNeg = nI (cf_vd c i) := by rw [hic, p7]; exact m3
    refine br_f (by rw [eK]; decide) (And.intro hii ?_)
    refine xs_node hg (by omega) (by rw [hk1, cf_NK, if_neg h0, if_pos h1]) (by rw [hkn, cf_NN, if_pos hk, eB]) fun f1 nk nn fe g1 => ?_
    refine And.intro hii (And.intro (by rw [eC]; exact vp_in_nI (by omega) (by decide)) ?_)
    refine xs_edge g1 (o := cf_La c i (cf_vc c i)) (n := cf_nb c i) (j := 0) (by rw [eC, nI_clamp (by omega)]; exact hcu _ (by omega)) rfl rfl (by omega) (by have := cf_La_lt k (x := cf_vc c i) (by omega) i (by omega); omega) (by omega) fun f2 fe2 et2 ei2 ne2 g2 => ?_
    refine And.intro hii (And.intro (by rw [eD]; exact vp_in_nI (by omega) (by decide)) ?_)
    refine xs_edge g2 (o := cf_La c i (cf_vd c i)) (n := cf_nb c i) (j := 1) (by rw [eD, nI_clamp (by omega)]; exact hcu _ (by omega)) rfl rfl (by omega) (by have := cf_La_lt k (x := cf_vd c i) (by omega) i (by omega); omega) (by rw [List.length_cons]; omega) fun f3 fe3 et3 ei3 ne3 g3 => ?_
    refine And.intro hii (And.intro eAi (nm_r (e' := upd a_current (cf_va c i) (nI (2 * cf_nb c i))) (by rw [eAc, e2]) ?_))
    refine H _ (tl_end1 k hi hk (px_mk ⟨p1, p2, p3, p4, p5, p6, p7, p8, p9⟩) g3 ?_ hcu hd hkk)
    have E0 : cf_E c (i, 0, cf_va c i, 0) = (cf_La c i (cf_vc c i), cf_nb c i, 0) := by simp only [cf_E, cf_sv, cf_nd, ek, cf_loc_0, if_true]
    have E1 : cf_E c (i, 0, cf_va c i, 1) = (cf_La c i (cf_vd c i), cf_nb c i, 1) := by
      simp only [cf_E, cf_sv, cf_nd, ek, cf_loc_0]
      rw [if_neg (by decide)]
    rw [cf_dl, if_neg h0, if_pos h1, List.map_cons, List.map_cons, E0, E1]
    rfl
theorem xl_line (k : cf_ok c) {i : Nat} (hi : i < cf_n c) {post : SX → Prop} (H : ∀ u, tl_I c fo fl (i + 1) u → post u) (u : SX) (h : tl_I c fo fl i u) : wpX_translateLine post u (nI i) := by
  obtain ⟨f_lines, f_opened, f_nodes, f_edges, f_depth, f_tags, f_readyFrom, f_readyTo, f_ranOrder, f_isRun, f_ended, f_stepCount, f_now, a_lineKind, a_lineA, a_lineB, a_lineC, a_lineD, a_openLine, a_start, a_nodeKind, a_nodeNumber, a_firstEdge, a_edgeTo, a_edgeInput, a_nextEdge, a_current, a_keptFirst, a_keptSecond, a_openIs, a_hasOther, a_tagLoop, a_tagRound, a_tagAround, a_waitNode, a_waitTag, a_waitValue, a_waitInput, a_readyNode, a_readyTag, a_readyA, a_readyB, a_readyInput, a_result, a_resultTime, a_stepsAt⟩ := u
  have hl := k.1.2 i hi
  have h20 := k.1.1
  have hp := px_el h.1
  have hii : vp_in (nI i) 20 := vp_in_nI (by omega) (by decide)
  have eK : a_lineKind (nI i).toNatClampNeg = nI (cf_kd c i) := by rw [nI_clamp (by omega), hp.2.2.1]; exact hl.1
  refine And.intro hii (nm_r eK ?_)
  by_cases h1 : cf_kd c i ≤ 1
  · refine br_f (nI_nlt (a := 1) (b := cf_kd c i) h1 (by decide)) (xl_simple k hi h1 (post := fun u => match u with | (f_lines, f_opened, f_nodes, f_edges, f_depth, f_tags, f_readyFrom, f_readyTo, f_ranOrder, f_isRun, f_ended, f_stepCount, f_now, a_lineKind, a_lineA, a_lineB, a_lineC, a_lineD, a_openLine, a_start, a_nodeKind, a_nodeNumber, a_firstEdge, a_edgeTo, a_edgeInput, a_nextEdge, a_current, a_keptFirst, a_keptSecond, a_openIs, a_hasOther, a_tagLoop, a_tagRound, a_tagAround, a_waitNode, a_waitTag, a_waitValue, a_waitInput, a_readyNode, a_readyTag, a_readyA, a_readyB, a_readyInput, a_result, a_resultTime, a_stepsAt) => post (f_lines, f_opened, f_nodes, f_edges, f_depth, f_tags, f_readyFrom, f_readyTo, f_ranOrder, f_isRun, f_ended, f_stepCount, f_now, a_lineKind, a_lineA, a_lineB, a_lineC, a_lineD, a_openLine, a_start, a_nodeKind, a_nodeNumber, a_firstEdge, a_edgeTo, a_edgeInput, a_nextEdge, a_current, a_keptFirst, a_keptSecond, a_openIs, a_hasOther, a_tagLoop, a_tagRound, a_tagAround, a_waitNode, a_waitTag, a_waitValue, a_waitInput, a_readyNode, a_readyTag, a_readyA, a_readyB, a_readyInput, a_result, a_resultTime, a_stepsAt)) ?_ (f_lines, f_opened, f_nodes, f_edges, f_depth, f_tags, f_readyFrom, f_readyTo, f_ranOrder, f_isRun, f_ended, f_stepCount, f_now, a_lineKind, a_lineA, a_lineB, a_lineC, a_lineD, a_openLine, a_start, a_nodeKind, a_nodeNumber, a_firstEdge, a_edgeTo, a_edgeInput, a_nextEdge, a_current, a_keptFirst, a_keptSecond, a_openIs, a_hasOther, a_tagLoop, a_tagRound, a_tagAround, a_waitNode, a_waitTag, a_waitValue, a_waitInput, a_readyNode, a_readyTag, a_readyA, a_readyB, a_readyInput, a_result, a_resultTime, a_stepsAt) h)
    intro u hu
    obtain ⟨f_lines, f_opened, f_nodes, f_edges, f_depth, f_tags, f_readyFrom, f_readyTo, f_ranOrder, f_isRun, f_ended, f_stepCount, f_now, a_lineKind, a_lineA, a_lineB, a_lineC, a_lineD, a_openLine, a_start, a_nodeKind, a_nodeNumber, a_firstEdge, a_edgeTo, a_edgeInput, a_nextEdge, a_current, a_keptFirst, a_keptSecond, a_openIs, a_hasOther, a_tagLoop, a_tagRound, a_tagAround, a_waitNode, a_waitTag, a_waitValue, a_waitInput, a_readyNode, a_readyTag, a_readyA, a_readyB, a_readyInput, a_result, a_resultTime, a_stepsAt⟩ := u
    exact H _ hu
  · refine br_t (nI_lt (a := 1) (b := cf_kd c i) (by omega) (by have := hl.2.1; omega)) ?_
    rcases cf_k6 k.1 hi with g | g | g | g | g | g
    · omega
    · omega
    · rw [g]
      refine br_t rfl (xl_when k hi g (post := fun u => match u with | (f_lines, f_opened, f_nodes, f_edges, f_depth, f_tags, f_readyFrom, f_readyTo, f_ranOrder, f_isRun, f_ended, f_stepCount, f_now, a_lineKind, a_lineA, a_lineB, a_lineC, a_lineD, a_openLine, a_start, a_nodeKind, a_nodeNumber, a_firstEdge, a_edgeTo, a_edgeInput, a_nextEdge, a_current, a_keptFirst, a_keptSecond, a_openIs, a_hasOther, a_tagLoop, a_tagRound, a_tagAround, a_waitNode, a_waitTag, a_waitValue, a_waitInput, a_readyNode, a_readyTag, a_readyA, a_readyB, a_readyInput, a_result, a_resultTime, a_stepsAt) => post (f_lines, f_opened, f_nodes, f_edges, f_depth, f_tags, f_readyFrom, f_readyTo, f_ranOrder, f_isRun, f_ended, f_stepCount, f_now, a_lineKind, a_lineA, a_lineB, a_lineC, a_lineD, a_openLine, a_start, a_nodeKind, a_nodeNumber, a_firstEdge, a_edgeTo, a_edgeInput, a_nextEdge, a_current, a_keptFirst, a_keptSecond, a_openIs, a_hasOther, a_tagLoop, a_tagRound, a_tagAround, a_waitNode, a_waitTag, a_waitValue, a_waitInput, a_readyNode, a_readyTag, a_readyA, a_readyB, a_readyInput, a_result, a_resultTime, a_stepsAt)) ?_ (f_lines, f_opened, f_nodes, f_edges, f_depth, f_tags, f_readyFrom, f_readyTo, f_ranOrder, f_isRun, f_ended, f_stepCount, f_now, a_lineKind, a_lineA, a_lineB, a_lineC, a_lineD, a_openLine, a_start, a_nodeKind, a_nodeNumber, a_firstEdge, a_edgeTo, a_edgeInput, a_nextEdge, a_current, a_keptFirst, a_keptSecond, a_openIs, a_hasOther, a_tagLoop, a_tagRound, a_tagAround, a_waitNode, a_waitTag, a_waitValue, a_waitInput, a_readyNode, a_readyTag, a_readyA, a_readyB, a_readyInput, a_result, a_resultTime, a_stepsAt) h)
      intro u hu
      obtain ⟨f_lines, f_opened, f_nodes, f_edges, f_depth, f_tags, f_readyFrom, f_readyTo, f_ranOrder, f_isRun, f_ended, f_stepCount, f_now, a_lineKind, a_lineA, a_lineB, a_lineC, a_lineD, a_openLine, a_start, a_nodeKind, a_nodeNumber, a_firstEdge, a_edgeTo, a_edgeInput, a_nextEdge, a_current, a_keptFirst, a_keptSecond, a_openIs, a_hasOther, a_tagLoop, a_tagRound, a_tagAround, a_waitNode, a_waitTag, a_waitValue, a_waitInput, a_readyNode, a_readyTag, a_readyA, a_readyB, a_readyInput, a_result, a_resultTime, a_stepsAt⟩ := u
      exact H _ hu
    · rw [g]
      refine br_f (by decide) (br_f (by decide) (br_t rfl (xl_oth k hi g (post := fun u => match u with | (f_lines, f_opened, f_nodes, f_edges, f_depth, f_tags, f_readyFrom, f_readyTo, f_ranOrder, f_isRun, f_ended, f_stepCount, f_now, a_lineKind, a_lineA, a_lineB, a_lineC, a_lineD, a_openLine, a_start, a_nodeKind, a_nodeNumber, a_firstEdge, a_edgeTo, a_edgeInput, a_nextEdge, a_current, a_keptFirst, a_keptSecond, a_openIs, a_hasOther, a_tagLoop, a_tagRound, a_tagAround, a_waitNode, a_waitTag, a_waitValue, a_waitInput, a_readyNode, a_readyTag, a_readyA, a_readyB, a_readyInput, a_result, a_resultTime, a_stepsAt) => post (f_lines, f_opened, f_nodes, f_edges, f_depth, f_tags, f_readyFrom, f_readyTo, f_ranOrder, f_isRun, f_ended, f_stepCount, f_now, a_lineKind, a_lineA, a_lineB, a_lineC, a_lineD, a_openLine, a_start, a_nodeKind, a_nodeNumber, a_firstEdge, a_edgeTo, a_edgeInput, a_nextEdge, a_current, a_keptFirst, a_keptSecond, a_openIs, a_hasOther, a_tagLoop, a_tagRound, a_tagAround, a_waitNode, a_waitTag, a_waitValue, a_waitInput, a_readyNode, a_readyTag, a_readyA, a_readyB, a_readyInput, a_result, a_resultTime, a_stepsAt)) ?_ (f_lines, f_opened, f_nodes, f_edges, f_depth, f_tags, f_readyFrom, f_readyTo, f_ranOrder, f_isRun, f_ended, f_stepCount, f_now, a_lineKind, a_lineA, a_lineB, a_lineC, a_lineD, a_openLine, a_start, a_nodeKind, a_nodeNumber, a_firstEdge, a_edgeTo, a_edgeInput, a_nextEdge, a_current, a_keptFirst, a_keptSecond, a_openIs, a_hasOther, a_tagLoop, a_tagRound, a_tagAround, a_waitNode, a_waitTag, a_waitValue, a_waitInput, a_readyNode, a_readyTag, a_readyA, a_readyB, a_readyInput, a_result, a_resultTime, a_stepsAt) h)))
      intro u hu
      obtain ⟨f_lines, f_opened, f_nodes, f_edges, f_depth, f_tags, f_readyFrom, f_readyTo, f_ranOrder, f_isRun, f_ended, f_stepCount, f_now, a_lineKind, a_lineA, a_lineB, a_lineC, a_lineD, a_openLine, a_start, a_nodeKind, a_nodeNumber, a_firstEdge, a_edgeTo, a_edgeInput, a_nextEdge, a_current, a_keptFirst, a_keptSecond, a_openIs, a_hasOther, a_tagLoop, a_tagRound, a_tagAround, a_waitNode, a_waitTag, a_waitValue, a_waitInput, a_readyNode, a_readyTag, a_readyA, a_readyB, a_readyInput, a_result, a_resultTime, a_stepsAt⟩ := u
      exact H _ hu
    · rw [g]
      refine br_f (by decide) (br_t rfl (xl_or k hi g (post := fun u => match u with | (f_lines, f_opened, f_nodes, f_edges, f_depth, f_tags, f_readyFrom, f_readyTo, f_ranOrder, f_isRun, f_ended, f_stepCount, f_now, a_lineKind, a_lineA, a_lineB, a_lineC, a_lineD, a_openLine, a_start, a_nodeKind, a_nodeNumber, a_firstEdge, a_edgeTo, a_edgeInput, a_nextEdge, a_current, a_keptFirst, a_keptSecond, a_openIs, a_hasOther, a_tagLoop, a_tagRound, a_tagAround, a_waitNode, a_waitTag, a_waitValue, a_waitInput, a_readyNode, a_readyTag, a_readyA, a_readyB, a_readyInput, a_result, a_resultTime, a_stepsAt) => post (f_lines, f_opened, f_nodes, f_edges, f_depth, f_tags, f_readyFrom, f_readyTo, f_ranOrder, f_isRun, f_ended, f_stepCount, f_now, a_lineKind, a_lineA, a_lineB, a_lineC, a_lineD, a_openLine, a_start, a_nodeKind, a_nodeNumber, a_firstEdge, a_edgeTo, a_edgeInput, a_nextEdge, a_current, a_keptFirst, a_keptSecond, a_openIs, a_hasOther, a_tagLoop, a_tagRound, a_tagAround, a_waitNode, a_waitTag, a_waitValue, a_waitInput, a_readyNode, a_readyTag, a_readyA, a_readyB, a_readyInput, a_result, a_resultTime, a_stepsAt)) ?_ (f_lines, f_opened, f_nodes, f_edges, f_depth, f_tags, f_readyFrom, f_readyTo, f_ranOrder, f_isRun, f_ended, f_stepCount, f_now, a_lineKind, a_lineA, a_lineB, a_lineC, a_lineD, a_openLine, a_start, a_nodeKind, a_nodeNumber, a_firstEdge, a_edgeTo, a_edgeInput, a_nextEdge, a_current, a_keptFirst, a_keptSecond, a_openIs, a_hasOther, a_tagLoop, a_tagRound, a_tagAround, a_waitNode, a_waitTag, a_waitValue, a_waitInput, a_readyNode, a_readyTag, a_readyA, a_readyB, a_readyInput, a_result, a_resultTime, a_stepsAt) h))
      intro u hu
      obtain ⟨f_lines, f_opened, f_nodes, f_edges, f_depth, f_tags, f_readyFrom, f_readyTo, f_ranOrder, f_isRun, f_ended, f_stepCount, f_now, a_lineKind, a_lineA, a_lineB, a_lineC, a_lineD, a_openLine, a_start, a_nodeKind, a_nodeNumber, a_firstEdge, a_edgeTo, a_edgeInput, a_nextEdge, a_current, a_keptFirst, a_keptSecond, a_openIs, a_hasOther, a_tagLoop, a_tagRound, a_tagAround, a_waitNode, a_waitTag, a_waitValue, a_waitInput, a_readyNode, a_readyTag, a_readyA, a_readyB, a_readyInput, a_result, a_resultTime, a_stepsAt⟩ := u
      exact H _ hu
    · rw [g]
      obtain ⟨a1, a2, a3, a4, a5⟩ := cf_cl_c k hi g
      have hlen : (cf_st c (cf_op c i)).length < 4 := (k.1.2 (cf_op c i) (by omega)).2.2.2.2.2.2 a3
      have hd : f_depth = nI (cf_st c i).length := h.2.2.2.1
      rw [a5, List.length_cons] at hd
      have ed : f_depth - 1 = nI (cf_st c (cf_op c i)).length := by rw [hd, nI_pred]
      have ho : a_openIs (f_depth - 1).toNatClampNeg = nI (cf_kd c (cf_op c i)) := by
        rw [ed, nI_clamp (by omega)]
        have hkk := h.2.2.2.2
        rw [a5] at hkk
        exact hkk.1
      refine br_f (by decide) (br_f (by decide) (br_f (by decide) (And.intro (by rw [ed]; exact vp_in_nI hlen (by decide)) ?_)))
      rcases a3 with b | b
      · rw [b] at ho
        refine br_t ho ?_
        refine xl_cw k hi g b ?_ (f_lines, f_opened, f_nodes, f_edges, f_depth, f_tags, f_readyFrom, f_readyTo, f_ranOrder, f_isRun, f_ended, f_stepCount, f_now, a_lineKind, a_lineA, a_lineB, a_lineC, a_lineD, a_openLine, a_start, a_nodeKind, a_nodeNumber, a_firstEdge, a_edgeTo, a_edgeInput, a_nextEdge, a_current, a_keptFirst, a_keptSecond, a_openIs, a_hasOther, a_tagLoop, a_tagRound, a_tagAround, a_waitNode, a_waitTag, a_waitValue, a_waitInput, a_readyNode, a_readyTag, a_readyA, a_readyB, a_readyInput, a_result, a_resultTime, a_stepsAt) h
        intro u hu
        obtain ⟨f_lines, f_opened, f_nodes, f_edges, f_depth, f_tags, f_readyFrom, f_readyTo, f_ranOrder, f_isRun, f_ended, f_stepCount, f_now, a_lineKind, a_lineA, a_lineB, a_lineC, a_lineD, a_openLine, a_start, a_nodeKind, a_nodeNumber, a_firstEdge, a_edgeTo, a_edgeInput, a_nextEdge, a_current, a_keptFirst, a_keptSecond, a_openIs, a_hasOther, a_tagLoop, a_tagRound, a_tagAround, a_waitNode, a_waitTag, a_waitValue, a_waitInput, a_readyNode, a_readyTag, a_readyA, a_readyB, a_readyInput, a_result, a_resultTime, a_stepsAt⟩ := u
        refine nm_e (H _ ?_)
        exact cw_end k hi g (by rw [cf_in, cf_ek_6 hi g b, if_neg (by decide)]) hu
      · rw [b] at ho
        refine br_f (by rw [ho]; decide) ?_
        refine xl_cr k hi g b ?_ (f_lines, f_opened, f_nodes, f_edges, f_depth, f_tags, f_readyFrom, f_readyTo, f_ranOrder, f_isRun, f_ended, f_stepCount, f_now, a_lineKind, a_lineA, a_lineB, a_lineC, a_lineD, a_openLine, a_start, a_nodeKind, a_nodeNumber, a_firstEdge, a_edgeTo, a_edgeInput, a_nextEdge, a_current, a_keptFirst, a_keptSecond, a_openIs, a_hasOther, a_tagLoop, a_tagRound, a_tagAround, a_waitNode, a_waitTag, a_waitValue, a_waitInput, a_readyNode, a_readyTag, a_readyA, a_readyB, a_readyInput, a_result, a_resultTime, a_stepsAt) h
        intro u hu
        obtain ⟨f_lines, f_opened, f_nodes, f_edges, f_depth, f_tags, f_readyFrom, f_readyTo, f_ranOrder, f_isRun, f_ended, f_stepCount, f_now, a_lineKind, a_lineA, a_lineB, a_lineC, a_lineD, a_openLine, a_start, a_nodeKind, a_nodeNumber, a_firstEdge, a_edgeTo, a_edgeInput, a_nextEdge, a_current, a_keptFirst, a_keptSecond, a_openIs, a_hasOther, a_tagLoop, a_tagRound, a_tagAround, a_waitNode, a_waitTag, a_waitValue, a_waitInput, a_readyNode, a_readyTag, a_readyA, a_readyB, a_readyInput, a_result, a_resultTime, a_stepsAt⟩ := u
        refine nm_e (H _ ?_)
        exact cw_end k hi g (by rw [cf_in, (cf_ek_7 hi g b).1, if_pos rfl]) hu
/-! the four loops of translate -/
def ux_t1 (post : SX → Prop) (n : Nat) (x1 : Int32) (u : SX) : Prop := match u with
  | (f_lines, f_opened, f_nodes, f_edges, f_depth, f_tags, f_readyFrom, f_readyTo, f_ranOrder, f_isRun, f_ended, f_stepCount, f_now, a_lineKind, a_lineA, a_lineB, a_lineC, a_lineD, a_openLine, a_start, a_nodeKind, a_nodeNumber, a_firstEdge, a_edgeTo, a_edgeInput, a_nextEdge, a_current, a_keptFirst, a_keptSecond, a_openIs, a_hasOther, a_tagLoop, a_tagRound, a_tagAround, a_waitNode, a_waitTag, a_waitValue, a_waitInput, a_readyNode, a_readyTag, a_readyA, a_readyB, a_readyInput, a_result, a_resultTime, a_stepsAt) => wX_translate_17 post n x1 f_lines f_opened f_nodes f_edges f_depth f_tags f_readyFrom f_readyTo f_ranOrder f_isRun f_ended f_stepCount f_now a_lineKind a_lineA a_lineB a_lineC a_lineD a_openLine a_start a_nodeKind a_nodeNumber a_firstEdge a_edgeTo a_edgeInput a_nextEdge a_current a_keptFirst a_keptSecond a_openIs a_hasOther a_tagLoop a_tagRound a_tagAround a_waitNode a_waitTag a_waitValue a_waitInput a_readyNode a_readyTag a_readyA a_readyB a_readyInput a_result a_resultTime a_stepsAt
def ux_t2 (post : SX → Prop) (n : Nat) (x1 : Int32) (u : SX) : Prop := match u with
  | (f_lines, f_opened, f_nodes, f_edges, f_depth, f_tags, f_readyFrom, f_readyTo, f_ranOrder, f_isRun, f_ended, f_stepCount, f_now, a_lineKind, a_lineA, a_lineB, a_lineC, a_lineD, a_openLine, a_start, a_nodeKind, a_nodeNumber, a_firstEdge, a_edgeTo, a_edgeInput, a_nextEdge, a_current, a_keptFirst, a_keptSecond, a_openIs, a_hasOther, a_tagLoop, a_tagRound, a_tagAround, a_waitNode, a_waitTag, a_waitValue, a_waitInput, a_readyNode, a_readyTag, a_readyA, a_readyB, a_readyInput, a_result, a_resultTime, a_stepsAt) => wX_translate_46 post n x1 f_lines f_opened f_nodes f_edges f_depth f_tags f_readyFrom f_readyTo f_ranOrder f_isRun f_ended f_stepCount f_now a_lineKind a_lineA a_lineB a_lineC a_lineD a_openLine a_start a_nodeKind a_nodeNumber a_firstEdge a_edgeTo a_edgeInput a_nextEdge a_current a_keptFirst a_keptSecond a_openIs a_hasOther a_tagLoop a_tagRound a_tagAround a_waitNode a_waitTag a_waitValue a_waitInput a_readyNode a_readyTag a_readyA a_readyB a_readyInput a_result a_resultTime a_stepsAt
def ux_t3 (post : SX → Prop) (n : Nat) (x1 : Int32) (u : SX) : Prop := match u with
  | (f_lines, f_opened, f_nodes, f_edges, f_depth, f_tags, f_readyFrom, f_readyTo, f_ranOrder, f_isRun, f_ended, f_stepCount, f_now, a_lineKind, a_lineA, a_lineB, a_lineC, a_lineD, a_openLine, a_start, a_nodeKind, a_nodeNumber, a_firstEdge, a_edgeTo, a_edgeInput, a_nextEdge, a_current, a_keptFirst, a_keptSecond, a_openIs, a_hasOther, a_tagLoop, a_tagRound, a_tagAround, a_waitNode, a_waitTag, a_waitValue, a_waitInput, a_readyNode, a_readyTag, a_readyA, a_readyB, a_readyInput, a_result, a_resultTime, a_stepsAt) => wX_translate_66 post n x1 f_lines f_opened f_nodes f_edges f_depth f_tags f_readyFrom f_readyTo f_ranOrder f_isRun f_ended f_stepCount f_now a_lineKind a_lineA a_lineB a_lineC a_lineD a_openLine a_start a_nodeKind a_nodeNumber a_firstEdge a_edgeTo a_edgeInput a_nextEdge a_current a_keptFirst a_keptSecond a_openIs a_hasOther a_tagLoop a_tagRound a_tagAround a_waitNode a_waitTag a_waitValue a_waitInput a_readyNode a_readyTag a_readyA a_readyB a_readyInput a_result a_resultTime a_stepsAt
def ux_t4 (post : SX → Prop) (n : Nat) (x1 : Int32) (u : SX) : Prop := match u with
  | (f_lines, f_opened, f_nodes, f_edges, f_depth, f_tags, f_readyFrom, f_readyTo, f_ranOrder, f_isRun, f_ended, f_stepCount, f_now, a_lineKind, a_lineA, a_lineB, a_lineC, a_lineD, a_openLine, a_start, a_nodeKind, a_nodeNumber, a_firstEdge, a_edgeTo, a_edgeInput, a_nextEdge, a_current, a_keptFirst, a_keptSecond, a_openIs, a_hasOther, a_tagLoop, a_tagRound, a_tagAround, a_waitNode, a_waitTag, a_waitValue, a_waitInput, a_readyNode, a_readyTag, a_readyA, a_readyB, a_readyInput, a_result, a_resultTime, a_stepsAt) => wX_translate_87 post n x1 f_lines f_opened f_nodes f_edges f_depth f_tags f_readyFrom f_readyTo f_ranOrder f_isRun f_ended f_stepCount f_now a_lineKind a_lineA a_lineB a_lineC a_lineD a_openLine a_start a_nodeKind a_nodeNumber a_firstEdge a_edgeTo a_edgeInput a_nextEdge a_current a_keptFirst a_keptSecond a_openIs a_hasOther a_tagLoop a_tagRound a_tagAround a_waitNode a_waitTag a_waitValue a_waitInput a_readyNode a_readyTag a_readyA a_readyB a_readyInput a_result a_resultTime a_stepsAt
def tg_I (c : CF) (fo : Int32) (fl : Nat → Int32) (u : SX) : Prop := px_I c fo fl u ∧ gx_I c ((cf_all c).map (cf_E c)) (cf_nb c (cf_n c)) u
def t4_I (c : CF) (fo : Int32) (fl : Nat → Int32) (x : Nat) (u : SX) : Prop :=
  tr_I c fo fl ((cf_dsg (cf_n c) x).map (cf_E c) ++ (cf_gd c (cf_n c)).map (cf_E c)) (cf_nb c (cf_n c)) (cf_La c (cf_n c)) (cf_st c (cf_n c)) (cf_ks c (cf_n c)) u
theorem xs_t4 (k : cf_ok c) {post : SX → Prop} (H : ∀ u, tg_I c fo fl u → post u) :
    ∀ m x, x + m = 5 → ∀ n, m < n → ∀ u, t4_I c fo fl x u → ux_t4 post n (nI x) u := by
  intro m
  induction m with
  | zero =>
    intro x hx n hn u h
    obtain ⟨n, rfl⟩ : ∃ n', n = n' + 1 := ⟨n - 1, by omega⟩
    have : x = 5 := by omega
    subst this
    obtain ⟨f_lines, f_opened, f_nodes, f_edges, f_depth, f_tags, f_readyFrom, f_readyTo, f_ranOrder, f_isRun, f_ended, f_stepCount, f_now, a_lineKind, a_lineA, a_lineB, a_lineC, a_lineD, a_openLine, a_start, a_nodeKind, a_nodeNumber, a_firstEdge, a_edgeTo, a_edgeInput, a_nextEdge, a_current, a_keptFirst, a_keptSecond, a_openIs, a_hasOther, a_tagLoop, a_tagRound, a_tagAround, a_waitNode, a_waitTag, a_waitValue, a_waitInput, a_readyNode, a_readyTag, a_readyA, a_readyB, a_readyInput, a_result, a_resultTime, a_stepsAt⟩ := u
    refine br_t (by decide) (H _ (And.intro h.1 ?_))
    have hg := gx_el h.2.1
    refine gx_mk ?_
    rw [cf_all, List.map_append]
    exact hg
  | succ m ih =>
    intro x hx n hn u h
    obtain ⟨n, rfl⟩ : ∃ n', n = n' + 1 := ⟨n - 1, by omega⟩
    obtain ⟨f_lines, f_opened, f_nodes, f_edges, f_depth, f_tags, f_readyFrom, f_readyTo, f_ranOrder, f_isRun, f_ended, f_stepCount, f_now, a_lineKind, a_lineA, a_lineB, a_lineC, a_lineD, a_openLine, a_start, a_nodeKind, a_nodeNumber, a_firstEdge, a_edgeTo, a_edgeInput, a_nextEdge, a_current, a_keptFirst, a_keptSecond, a_openIs, a_hasOther, a_tagLoop, a_tagRound, a_tagAround, a_waitNode, a_waitTag, a_waitValue, a_waitInput, a_readyNode, a_readyTag, a_readyA, a_readyB, a_readyInput, a_result, a_resultTime, a_stepsAt⟩ := u
    obtain ⟨hp, hg, hcu, hd, hkk⟩ := h
    have h5 : x < 5 := by omega
    have hxi : vp_in (nI x) 5 := vp_in_nI h5 (by decide)
    have hxc : (nI x).toNatClampNeg = x := nI_clamp (by omega)
    have h1 := (cf_gd_n k (cf_n c) (Nat.le_refl _)).2
    have h2 := cf_nb_le (c := c) (cf_n c)
    have h3 := k.1.1
    refine br_f (lt5' x h5) (And.intro hxi ?_)
    refine xs_edge (gx_el hg) (o := cf_La c (cf_n c) x) (n := 5 + x) (j := 0) (by rw [hxc]; exact hcu x h5) (nI_add 5 x) rfl (by omega) (cf_La_lt k h5 _ (Nat.le_refl _)) (by rw [List.length_append, List.length_map, List.length_map, (cf_dsg_n _ _).2]; omega) fun f2 fe2 et2 ei2 ne2 g2 => ?_
    refine nm_r (e' := nI (x + 1)) (nI_1 x) ?_
    refine ih (x + 1) (by omega) n (by omega) (f_lines, f_opened, f_nodes, f2, f_depth, f_tags, f_readyFrom, f_readyTo, f_ranOrder, f_isRun, f_ended, f_stepCount, f_now, a_lineKind, a_lineA, a_lineB, a_lineC, a_lineD, a_openLine, a_start, a_nodeKind, a_nodeNumber, fe2, et2, ei2, ne2, a_current, a_keptFirst, a_keptSecond, a_openIs, a_hasOther, a_tagLoop, a_tagRound, a_tagAround, a_waitNode, a_waitTag, a_waitValue, a_waitInput, a_readyNode, a_readyTag, a_readyA, a_readyB, a_readyInput, a_result, a_resultTime, a_stepsAt) ?_
    refine And.intro (px_mk (px_el hp)) (And.intro (gx_mk ?_) (And.intro hcu (And.intro hd hkk)))
    have ek : cf_ek c (cf_n c) 0 = 9 := cf_ek_9 (Nat.le_refl _)
    have E0 : cf_E c (cf_n c, 0, x, 0) = (cf_La c (cf_n c) x, 5 + x, 0) := by simp only [cf_E, cf_sv, cf_nd, ek, cf_loc_0]
    rw [cf_dsg, List.map_cons, E0]
    exact g2
theorem xs_t3 (k : cf_ok c) {post : SX → Prop} (H : ∀ u, tg_I c fo fl u → post u) :
    ∀ m i, i + m = cf_n c → ∀ n, m < n → ∀ u, tl_I c fo fl i u → ux_t3 post n (nI i) u := by
  have h20 := k.1.1
  intro m
  induction m with
  | zero =>
    intro x hx n hn u h
    obtain ⟨n, rfl⟩ : ∃ n', n = n' + 1 := ⟨n - 1, by omega⟩
    have e : x = cf_n c := by omega
    subst e
    obtain ⟨f_lines, f_opened, f_nodes, f_edges, f_depth, f_tags, f_readyFrom, f_readyTo, f_ranOrder, f_isRun, f_ended, f_stepCount, f_now, a_lineKind, a_lineA, a_lineB, a_lineC, a_lineD, a_openLine, a_start, a_nodeKind, a_nodeNumber, a_firstEdge, a_edgeTo, a_edgeInput, a_nextEdge, a_current, a_keptFirst, a_keptSecond, a_openIs, a_hasOther, a_tagLoop, a_tagRound, a_tagAround, a_waitNode, a_waitTag, a_waitValue, a_waitInput, a_readyNode, a_readyTag, a_readyA, a_readyB, a_readyInput, a_result, a_resultTime, a_stepsAt⟩ := u
    have hp := px_el h.1
    refine br_t (by rw [hp.1]; exact nI_le (Nat.le_refl _) (by omega)) ⟨6, ?_⟩
    exact xs_t4 (c := c) (fo := fo) (fl := fl) k H 5 0 rfl 6 (by omega) (f_lines, f_opened, f_nodes, f_edges, f_depth, f_tags, f_readyFrom, f_readyTo, f_ranOrder, f_isRun, f_ended, f_stepCount, f_now, a_lineKind, a_lineA, a_lineB, a_lineC, a_lineD, a_openLine, a_start, a_nodeKind, a_nodeNumber, a_firstEdge, a_edgeTo, a_edgeInput, a_nextEdge, a_current, a_keptFirst, a_keptSecond, a_openIs, a_hasOther, a_tagLoop, a_tagRound, a_tagAround, a_waitNode, a_waitTag, a_waitValue, a_waitInput, a_readyNode, a_readyTag, a_readyA, a_readyB, a_readyInput, a_result, a_resultTime, a_stepsAt) h
  | succ m ih =>
    intro x hx n hn u h
    obtain ⟨n, rfl⟩ : ∃ n', n = n' + 1 := ⟨n - 1, by omega⟩
    obtain ⟨f_lines, f_opened, f_nodes, f_edges, f_depth, f_tags, f_readyFrom, f_readyTo, f_ranOrder, f_isRun, f_ended, f_stepCount, f_now, a_lineKind, a_lineA, a_lineB, a_lineC, a_lineD, a_openLine, a_start, a_nodeKind, a_nodeNumber, a_firstEdge, a_edgeTo, a_edgeInput, a_nextEdge, a_current, a_keptFirst, a_keptSecond, a_openIs, a_hasOther, a_tagLoop, a_tagRound, a_tagAround, a_waitNode, a_waitTag, a_waitValue, a_waitInput, a_readyNode, a_readyTag, a_readyA, a_readyB, a_readyInput, a_result, a_resultTime, a_stepsAt⟩ := u
    have hp := px_el h.1
    refine br_f (by rw [hp.1]; exact nI_ge (by omega) (by omega)) ?_
    refine xl_line k (by omega) ?_ (f_lines, f_opened, f_nodes, f_edges, f_depth, f_tags, f_readyFrom, f_readyTo, f_ranOrder, f_isRun, f_ended, f_stepCount, f_now, a_lineKind, a_lineA, a_lineB, a_lineC, a_lineD, a_openLine, a_start, a_nodeKind, a_nodeNumber, a_firstEdge, a_edgeTo, a_edgeInput, a_nextEdge, a_current, a_keptFirst, a_keptSecond, a_openIs, a_hasOther, a_tagLoop, a_tagRound, a_tagAround, a_waitNode, a_waitTag, a_waitValue, a_waitInput, a_readyNode, a_readyTag, a_readyA, a_readyB, a_readyInput, a_result, a_resultTime, a_stepsAt) h
    intro u hu
    obtain ⟨f_lines, f_opened, f_nodes, f_edges, f_depth, f_tags, f_readyFrom, f_readyTo, f_ranOrder, f_isRun, f_ended, f_stepCount, f_now, a_lineKind, a_lineA, a_lineB, a_lineC, a_lineD, a_openLine, a_start, a_nodeKind, a_nodeNumber, a_firstEdge, a_edgeTo, a_edgeInput, a_nextEdge, a_current, a_keptFirst, a_keptSecond, a_openIs, a_hasOther, a_tagLoop, a_tagRound, a_tagAround, a_waitNode, a_waitTag, a_waitValue, a_waitInput, a_readyNode, a_readyTag, a_readyA, a_readyB, a_readyInput, a_result, a_resultTime, a_stepsAt⟩ := u
    refine nm_r (e' := nI (x + 1)) (nI_1 x) ?_
    exact ih (x + 1) (by omega) n (by omega) (f_lines, f_opened, f_nodes, f_edges, f_depth, f_tags, f_readyFrom, f_readyTo, f_ranOrder, f_isRun, f_ended, f_stepCount, f_now, a_lineKind, a_lineA, a_lineB, a_lineC, a_lineD, a_openLine, a_start, a_nodeKind, a_nodeNumber, a_firstEdge, a_edgeTo, a_edgeInput, a_nextEdge, a_current, a_keptFirst, a_keptSecond, a_openIs, a_hasOther, a_tagLoop, a_tagRound, a_tagAround, a_waitNode, a_waitTag, a_waitValue, a_waitInput, a_readyNode, a_readyTag, a_readyA, a_readyB, a_readyInput, a_result, a_resultTime, a_stepsAt) hu
def t1_I (c : CF) (fo : Int32) (fl : Nat → Int32) (N x : Nat) (u : SX) : Prop := px_I c fo fl u ∧ gx_I c [] N u ∧ (match u with
  | (f_lines, f_opened, f_nodes, f_edges, f_depth, f_tags, f_readyFrom, f_readyTo, f_ranOrder, f_isRun, f_ended, f_stepCount, f_now, a_lineKind, a_lineA, a_lineB, a_lineC, a_lineD, a_openLine, a_start, a_nodeKind, a_nodeNumber, a_firstEdge, a_edgeTo, a_edgeInput, a_nextEdge, a_current, a_keptFirst, a_keptSecond, a_openIs, a_hasOther, a_tagLoop, a_tagRound, a_tagAround, a_waitNode, a_waitTag, a_waitValue, a_waitInput, a_readyNode, a_readyTag, a_readyA, a_readyB, a_readyInput, a_result, a_resultTime, a_stepsAt) => f_depth = 0 ∧ ∀ y, y < x → a_current y = nI (2 * y))
theorem xs_t2 (k : cf_ok c) {post : SX → Prop} (H : ∀ u, tg_I c fo fl u → post u) :
    ∀ m x, x + m = 5 → ∀ n, m < n → ∀ u, t1_I c fo fl (5 + x) 5 u → ux_t2 post n (nI x) u := by
  intro m
  induction m with
  | zero =>
    intro x hx n hn u h
    obtain ⟨n, rfl⟩ : ∃ n', n = n' + 1 := ⟨n - 1, by omega⟩
    have : x = 5 := by omega
    subst this
    obtain ⟨f_lines, f_opened, f_nodes, f_edges, f_depth, f_tags, f_readyFrom, f_readyTo, f_ranOrder, f_isRun, f_ended, f_stepCount, f_now, a_lineKind, a_lineA, a_lineB, a_lineC, a_lineD, a_openLine, a_start, a_nodeKind, a_nodeNumber, a_firstEdge, a_edgeTo, a_edgeInput, a_nextEdge, a_current, a_keptFirst, a_keptSecond, a_openIs, a_hasOther, a_tagLoop, a_tagRound, a_tagAround, a_waitNode, a_waitTag, a_waitValue, a_waitInput, a_readyNode, a_readyTag, a_readyA, a_readyB, a_readyInput, a_result, a_resultTime, a_stepsAt⟩ := u
    obtain ⟨hp, hg, hd, hcu⟩ := h
    refine br_t (by decide) ⟨cf_n c + 1, ?_⟩
    refine xs_t3 (c := c) (fo := fo) (fl := fl) k H (cf_n c) 0 (by omega) (cf_n c + 1) (by omega) (f_lines, f_opened, f_nodes, f_edges, f_depth, f_tags, f_readyFrom, f_readyTo, f_ranOrder, f_isRun, f_ended, f_stepCount, f_now, a_lineKind, a_lineA, a_lineB, a_lineC, a_lineD, a_openLine, a_start, a_nodeKind, a_nodeNumber, a_firstEdge, a_edgeTo, a_edgeInput, a_nextEdge, a_current, a_keptFirst, a_keptSecond, a_openIs, a_hasOther, a_tagLoop, a_tagRound, a_tagAround, a_waitNode, a_waitTag, a_waitValue, a_waitInput, a_readyNode, a_readyTag, a_readyA, a_readyB, a_readyInput, a_result, a_resultTime, a_stepsAt) ?_
    exact And.intro hp (And.intro hg (And.intro hcu (And.intro hd trivial)))
  | succ m ih =>
    intro x hx n hn u h
    obtain ⟨n, rfl⟩ : ∃ n', n = n' + 1 := ⟨n - 1, by omega⟩
    obtain ⟨f_lines, f_opened, f_nodes, f_edges, f_depth, f_tags, f_readyFrom, f_readyTo, f_ranOrder, f_isRun, f_ended, f_stepCount, f_now, a_lineKind, a_lineA, a_lineB, a_lineC, a_lineD, a_openLine, a_start, a_nodeKind, a_nodeNumber, a_firstEdge, a_edgeTo, a_edgeInput, a_nextEdge, a_current, a_keptFirst, a_keptSecond, a_openIs, a_hasOther, a_tagLoop, a_tagRound, a_tagAround, a_waitNode, a_waitTag, a_waitValue, a_waitInput, a_readyNode, a_readyTag, a_readyA, a_readyB, a_readyInput, a_result, a_resultTime, a_stepsAt⟩ := u
    obtain ⟨hp, hg, hd, hcu⟩ := h
    have h5 : x < 5 := by omega
    obtain ⟨k1, k2⟩ := cf_kk_0 (c := c) (m := 5 + x) (by omega) (cf_n c)
    refine br_f (lt5' x h5) ?_
    refine xs_node (gx_el hg) (by omega) (by rw [k1, if_neg (by omega)]) (by rw [k2, if_neg (by omega), Nat.add_sub_cancel_left]) fun f1 nk nn fe g1 => ?_
    refine nm_r (e' := nI (x + 1)) (nI_1 x) ?_
    exact ih (x + 1) (by omega) n (by omega) (f_lines, f_opened, f1, f_edges, f_depth, f_tags, f_readyFrom, f_readyTo, f_ranOrder, f_isRun, f_ended, f_stepCount, f_now, a_lineKind, a_lineA, a_lineB, a_lineC, a_lineD, a_openLine, a_start, nk, nn, fe, a_edgeTo, a_edgeInput, a_nextEdge, a_current, a_keptFirst, a_keptSecond, a_openIs, a_hasOther, a_tagLoop, a_tagRound, a_tagAround, a_waitNode, a_waitTag, a_waitValue, a_waitInput, a_readyNode, a_readyTag, a_readyA, a_readyB, a_readyInput, a_result, a_resultTime, a_stepsAt) (And.intro (px_mk (px_el hp)) (And.intro (gx_mk g1) (And.intro hd hcu)))
theorem xs_t1 (k : cf_ok c) {post : SX → Prop} (H : ∀ u, tg_I c fo fl u → post u) :
    ∀ m x, x + m = 5 → ∀ n, m < n → ∀ u, t1_I c fo fl x x u → ux_t1 post n (nI x) u := by
  intro m
  induction m with
  | zero =>
    intro x hx n hn u h
    obtain ⟨n, rfl⟩ : ∃ n', n = n' + 1 := ⟨n - 1, by omega⟩
    have : x = 5 := by omega
    subst this
    obtain ⟨f_lines, f_opened, f_nodes, f_edges, f_depth, f_tags, f_readyFrom, f_readyTo, f_ranOrder, f_isRun, f_ended, f_stepCount, f_now, a_lineKind, a_lineA, a_lineB, a_lineC, a_lineD, a_openLine, a_start, a_nodeKind, a_nodeNumber, a_firstEdge, a_edgeTo, a_edgeInput, a_nextEdge, a_current, a_keptFirst, a_keptSecond, a_openIs, a_hasOther, a_tagLoop, a_tagRound, a_tagAround, a_waitNode, a_waitTag, a_waitValue, a_waitInput, a_readyNode, a_readyTag, a_readyA, a_readyB, a_readyInput, a_result, a_resultTime, a_stepsAt⟩ := u
    refine br_t (by decide) ⟨6, ?_⟩
    exact xs_t2 (c := c) (fo := fo) (fl := fl) k H 5 0 rfl 6 (by omega) (f_lines, f_opened, f_nodes, f_edges, f_depth, f_tags, f_readyFrom, f_readyTo, f_ranOrder, f_isRun, f_ended, f_stepCount, f_now, a_lineKind, a_lineA, a_lineB, a_lineC, a_lineD, a_openLine, a_start, a_nodeKind, a_nodeNumber, a_firstEdge, a_edgeTo, a_edgeInput, a_nextEdge, a_current, a_keptFirst, a_keptSecond, a_openIs, a_hasOther, a_tagLoop, a_tagRound, a_tagAround, a_waitNode, a_waitTag, a_waitValue, a_waitInput, a_readyNode, a_readyTag, a_readyA, a_readyB, a_readyInput, a_result, a_resultTime, a_stepsAt) h
  | succ m ih =>
    intro x hx n hn u h
    obtain ⟨n, rfl⟩ : ∃ n', n = n' + 1 := ⟨n - 1, by omega⟩
    obtain ⟨f_lines, f_opened, f_nodes, f_edges, f_depth, f_tags, f_readyFrom, f_readyTo, f_ranOrder, f_isRun, f_ended, f_stepCount, f_now, a_lineKind, a_lineA, a_lineB, a_lineC, a_lineD, a_openLine, a_start, a_nodeKind, a_nodeNumber, a_firstEdge, a_edgeTo, a_edgeInput, a_nextEdge, a_current, a_keptFirst, a_keptSecond, a_openIs, a_hasOther, a_tagLoop, a_tagRound, a_tagAround, a_waitNode, a_waitTag, a_waitValue, a_waitInput, a_readyNode, a_readyTag, a_readyA, a_readyB, a_readyInput, a_result, a_resultTime, a_stepsAt⟩ := u
    obtain ⟨hp, hg, hd, hcu⟩ := h
    have h5 : x < 5 := by omega
    have hxi : vp_in (nI x) 5 := vp_in_nI h5 (by decide)
    have hxc : (nI x).toNatClampNeg = x := nI_clamp (by omega)
    obtain ⟨k1, k2⟩ := cf_kk_0 (c := c) (m := x) (by omega) (cf_n c)
    refine br_f (lt5' x h5) ?_
    refine xs_node (gx_el hg) (by omega) (by rw [k1, if_pos h5]) (by rw [k2, if_pos h5]) fun f1 nk nn fe g1 => ?_
    have e2 : (2 : Int32) * nI x = nI (2 * x) := pk_mul 2 _
    refine And.intro hxi (nm_r (e' := upd a_current x (nI (2 * x))) (by rw [hxc, e2]) (nm_r (e' := nI (x + 1)) (nI_1 x) ?_))
    refine ih (x + 1) (by omega) n (by omega) (f_lines, f_opened, f1, f_edges, f_depth, f_tags, f_readyFrom, f_readyTo, f_ranOrder, f_isRun, f_ended, f_stepCount, f_now, a_lineKind, a_lineA, a_lineB, a_lineC, a_lineD, a_openLine, a_start, nk, nn, fe, a_edgeTo, a_edgeInput, a_nextEdge, upd a_current x (nI (2 * x)), a_keptFirst, a_keptSecond, a_openIs, a_hasOther, a_tagLoop, a_tagRound, a_tagAround, a_waitNode, a_waitTag, a_waitValue, a_waitInput, a_readyNode, a_readyTag, a_readyA, a_readyB, a_readyInput, a_result, a_resultTime, a_stepsAt) (And.intro (px_mk (px_el hp)) (And.intro (gx_mk g1) (And.intro hd ?_)))
    intro y hy
    by_cases e : y = x
    · subst e; rw [pk_us]
    · rw [pk_un e]; exact hcu y (by omega)
theorem xs_translate (k : cf_ok c) {post : SX → Prop} (H : ∀ u, tg_I c fo fl u → post u) (u : SX) (h : px_I c fo fl u) : wpX_translate post u := by
  obtain ⟨f_lines, f_opened, f_nodes, f_edges, f_depth, f_tags, f_readyFrom, f_readyTo, f_ranOrder, f_isRun, f_ended, f_stepCount, f_now, a_lineKind, a_lineA, a_lineB, a_lineC, a_lineD, a_openLine, a_start, a_nodeKind, a_nodeNumber, a_firstEdge, a_edgeTo, a_edgeInput, a_nextEdge, a_current, a_keptFirst, a_keptSecond, a_openIs, a_hasOther, a_tagLoop, a_tagRound, a_tagAround, a_waitNode, a_waitTag, a_waitValue, a_waitInput, a_readyNode, a_readyTag, a_readyA, a_readyB, a_readyInput, a_result, a_resultTime, a_stepsAt⟩ := u
  refine ⟨6, xs_t1 (c := c) (fo := fo) (fl := fl) k H 5 0 rfl 6 (by omega) (f_lines, f_opened, 0, 0, 0, f_tags, f_readyFrom, f_readyTo, f_ranOrder, f_isRun, f_ended, f_stepCount, f_now, a_lineKind, a_lineA, a_lineB, a_lineC, a_lineD, a_openLine, a_start, a_nodeKind, a_nodeNumber, a_firstEdge, a_edgeTo, a_edgeInput, a_nextEdge, a_current, a_keptFirst, a_keptSecond, a_openIs, a_hasOther, a_tagLoop, a_tagRound, a_tagAround, a_waitNode, a_waitTag, a_waitValue, a_waitInput, a_readyNode, a_readyTag, a_readyA, a_readyB, a_readyInput, a_result, a_resultTime, a_stepsAt) ?_⟩
  refine And.intro (px_mk (px_el h)) (And.intro (gx_mk ?_) (And.intro rfl fun y hy => absurd hy (Nat.not_lt_zero _)))
  exact ⟨rfl, rfl, fun m hm => absurd hm (Nat.not_lt_zero _), trivial, fun o ho => absurd ho (Nat.not_lt_zero _), fun e he => nomatch he⟩
end
end
section
/-! tags, waiting tokens and ready firings as X stores them -/
def tg_is (tl tr ta : Nat → Int32) (N : Nat) : List (Nat × Nat) → Nat → Prop
  | [], t => t = 0
  | e :: g, t => 0 < t ∧ t < N ∧ e.1 < 20 ∧ e.2 < t ∧ tl t = nI e.1 ∧ tr t = nI e.2 ∧ ∃ s, s < t ∧ ta t = nI s ∧ tg_is tl tr ta N g s
def tg_T (tl tr ta : Nat → Int32) (N : Nat) : Prop := (∀ t, 0 < t → t < N → ∃ i r s, i < 20 ∧ r < t ∧ s < t ∧ tl t = nI i ∧ tr t = nI r ∧ ta t = nI s) ∧
  (∀ t t', 0 < t → t < N → 0 < t' → t' < N → tl t = tl t' → tr t = tr t' → ta t = ta t' → t = t')
theorem tg_lt {tl tr ta : Nat → Int32} {N : Nat} (hN : 1 ≤ N) : ∀ g t, tg_is tl tr ta N g t → t < N
  | [], _, h => by cases h; omega
  | _ :: _, _, h => h.2.1
theorem tg_u {tl tr ta : Nat → Int32} {N : Nat} (hT : tg_T tl tr ta N) : ∀ g t t', tg_is tl tr ta N g t → tg_is tl tr ta N g t' → t = t'
  | [], _, _, h, h' => by cases h; cases h'; rfl
  | e :: g, t, t', ⟨a1, a2, a3, a4, a5, a6, s, a7, a8, a9⟩, ⟨b1, b2, b3, b4, b5, b6, s', b7, b8, b9⟩ => by
    have := tg_u hT g s s' a9 b9
    subst this
    exact hT.2 t t' a1 a2 b1 b2 (a5.trans b5.symm) (a6.trans b6.symm) (a8.trans b8.symm)
theorem tg_i {tl tr ta : Nat → Int32} {N : Nat} (hN : N ≤ 1000) : ∀ g g' t, tg_is tl tr ta N g t → tg_is tl tr ta N g' t → g = g'
  | [], [], _, _, _ => rfl
  | [], _ :: _, _, h, h' => by
    have h1 : _ = 0 := h
    have h2 := h'.1
    omega
  | _ :: _, [], _, h, h' => by
    have h1 : _ = 0 := h'
    have h2 := h.1
    omega
  | (i, r) :: g, (i', r') :: g', t, ⟨a1, a2, a3, a4, a5, a6, s, a7, a8, a9⟩, ⟨b1, b2, b3, b4, b5, b6, s', b7, b8, b9⟩ => by
    have e1 : i = i' := (nI_eq (by simp only [] at a3; omega) (by simp only [] at b3; omega)).mp (a5.symm.trans b5)
    have e2 : r = r' := (nI_eq (by simp only [] at a4; omega) (by simp only [] at b4; omega)).mp (a6.symm.trans b6)
    have e3 : s = s' := (nI_eq (by omega) (by omega)).mp (a8.symm.trans b8)
    subst e1 e2 e3
    rw [tg_i hN g g' s a9 b9]
theorem tg_up {tl tr ta : Nat → Int32} {N : Nat} {a b d : Int32} : ∀ g t, tg_is tl tr ta N g t → tg_is (upd tl N a) (upd tr N b) (upd ta N d) (N + 1) g t
  | [], _, h => h
  | e :: g, t, ⟨a1, a2, a3, a4, a5, a6, s, a7, a8, a9⟩ => by
    have hne : t ≠ N := by omega
    exact ⟨a1, by omega, a3, a4, by rw [pk_un hne]; exact a5, by rw [pk_un hne]; exact a6, s, a7, by rw [pk_un hne]; exact a8, tg_up g s a9⟩
section
variable {c : CF}
def mc_tw (c : CF) (K : Nat) : Prop := me c K = 1 ∨ me c K = 2 ∨ me c K = 5
theorem mc_tw_s (k : cf_ok c) {K x j : Nat} (h : mc_tw c K) (hr : mr c K x = true) (hj : j < 2) : mc_sl c K x j := by
  rw [mr] at hr
  rcases h with e | e | e <;> rw [me] at e <;> rw [cf_fr_e e] at hr
  · exact (cf_sl_e e).mpr ⟨by simpa using hr, hj⟩
  · exact (cf_sl_e e).mpr ⟨by simpa using hr, hj⟩
  · exact (cf_sl_e e).mpr ⟨by simpa using hr, hj⟩
theorem mc_tw_l {K x j : Nat} (h : mc_tw c K) (s : mc_sl c K x j) : j < 2 := by
  rcases h with e | e | e <;> rw [me] at e
  · exact ((cf_sl_e e).mp s).2
  · exact ((cf_sl_e e).mp s).2
  · exact ((cf_sl_e e).mp s).2
/-- a node with one input: which one, and of whom -/
theorem mc_one (k : cf_ok c) {K x j : Nat} (h : ¬ mc_tw c K) (hi : mi c K < cf_n c) (s : mc_sl c K x j) : (∀ j', mc_sl c K x j' → j' = j) ∧ (me c K ≠ 0 → j = cf_in c (mi c K) (mf c K) ∧ mc_sv c K x j = x) := by
  rw [mc_tw] at h
  rcases cf_cases k (mc_pos k K) with ⟨e, _⟩ | ⟨e, _⟩ | ⟨e, _⟩ | ⟨e, _⟩ | ⟨e, _⟩ | ⟨e, _⟩ | ⟨e, _⟩ | ⟨e, _⟩ | ⟨e, _⟩ | ⟨e, hn, _⟩
  · refine ⟨fun j' s' => ?_, fun z => absurd e z⟩
    have a := ((cf_sl_e e).mp s).2
    have b := ((cf_sl_e e).mp s').2
    omega
  · exact absurd (Or.inl e) h
  · exact absurd (Or.inr (Or.inl e)) h
  · exact ((cf_sl_e e).mp s).elim
  · have a := ((cf_sl_e e).mp s).2
    refine ⟨fun j' s' => ?_, fun _ => ⟨by rw [cf_in, e, if_neg (by decide)]; exact a, by simp only [mc_sv, cf_sv, e]⟩⟩
    have b := ((cf_sl_e e).mp s').2
    omega
  · exact absurd (Or.inr (Or.inr e)) h
  · have a := ((cf_sl_e e).mp s).2
    refine ⟨fun j' s' => ?_, fun _ => ⟨by rw [cf_in, e, if_neg (by decide)]; exact a, by simp only [mc_sv, cf_sv, e]⟩⟩
    have b := ((cf_sl_e e).mp s').2
    omega
  · have a := ((cf_sl_e e).mp s).2
    refine ⟨fun j' s' => ?_, fun _ => ⟨by rw [cf_in, e, if_pos rfl]; exact a, by simp only [mc_sv, cf_sv, e]⟩⟩
    have b := ((cf_sl_e e).mp s').2
    omega
  · have a := ((cf_sl_e e).mp s).2
    refine ⟨fun j' s' => ?_, fun _ => ⟨by rw [cf_in, e, if_neg (by decide)]; exact a, by simp only [mc_sv, cf_sv, e]⟩⟩
    have b := ((cf_sl_e e).mp s').2
    omega
  · omega
def hs_h (n t : Nat) : Nat := n * 31 + t * 7
/-- the waiting tokens: (step, variable, place) -/
def wt_I (c : CF) (A : Nat → Nat → Nat → Prop) (tl tr ta : Nat → Int32) (N : Nat) (wl : List (Nat × Nat × Nat)) (wn wt wv wi : Nat → Int32) : Prop :=
  (wl.map (fun e => (e.1, e.2.1))).Nodup ∧
  (∀ h, h < 8192 → wn h = -1 ∨ ∃ K x, (K, x, h) ∈ wl) ∧
  (∀ K x h, (K, x, h) ∈ wl → h < 8192 ∧ mr c K x = true ∧ mc_tw c K ∧ wn h = nI (mc_nd c K x) ∧
    (∃ t, wt h = nI t ∧ tg_is tl tr ta N (mg c K) t ∧ ∃ d, d < 8192 ∧ h = (hs_h (mc_nd c K x) t + d) % 8192 ∧ ∀ d', d' < d → wn ((hs_h (mc_nd c K x) t + d') % 8192) ≠ -1) ∧
    ((wi h = 2 ∧ A K x 0 ∧ A K x 1) ∨ (∃ j, j < 2 ∧ wi h = nI j ∧ A K x j ∧ ¬ A K x (1 - j) ∧ wv h = mv c K (mc_sv c K x j)))) ∧
  (∀ K x j, A K x j → mc_tw c K → ∃ h, (K, x, h) ∈ wl)
theorem wt_up {A : Nat → Nat → Nat → Prop} {tl tr ta : Nat → Int32} {N : Nat} {wl : List (Nat × Nat × Nat)} {wn wt wv wi : Nat → Int32} {a b d : Int32} (h : wt_I c A tl tr ta N wl wn wt wv wi) :
    wt_I c A (upd tl N a) (upd tr N b) (upd ta N d) (N + 1) wl wn wt wv wi := by
  obtain ⟨h1, h2, h3, h4⟩ := h
  refine ⟨h1, h2, fun K x h hm => ?_, h4⟩
  obtain ⟨a1, a2, a3, a4, ⟨t, b1, b2, b3⟩, a6⟩ := h3 K x h hm
  exact ⟨a1, a2, a3, a4, ⟨t, b1, tg_up _ _ b2, b3⟩, a6⟩
theorem wt_c {A A' : Nat → Nat → Nat → Prop} {tl tr ta : Nat → Int32} {N : Nat} {wl : List (Nat × Nat × Nat)} {wn wt wv wi : Nat → Int32} (h : wt_I c A tl tr ta N wl wn wt wv wi) (e : ∀ K x j, A K x j ↔ A' K x j) :
    wt_I c A' tl tr ta N wl wn wt wv wi := by
  have : A = A' := by funext K x j; exact propext (e K x j)
  rw [← this]; exact h
/-- a token for a node with one input -/
theorem wt_o {A A' : Nat → Nat → Nat → Prop} {tl tr ta : Nat → Int32} {N : Nat} {wl : List (Nat × Nat × Nat)} {wn wt wv wi : Nat → Int32} {K0 x0 j0 : Nat} (h : wt_I c A tl tr ta N wl wn wt wv wi)
    (e : ∀ K x j, A' K x j ↔ A K x j ∨ (K = K0 ∧ x = x0 ∧ j = j0)) (h0 : ¬ mc_tw c K0) : wt_I c A' tl tr ta N wl wn wt wv wi := by
  obtain ⟨h1, h2, h3, h4⟩ := h
  have e2 : ∀ K x j, mc_tw c K → (A' K x j ↔ A K x j) := by
    intro K x j ht
    rw [e]
    constructor
    · rintro (h | ⟨rfl, _⟩)
      · exact h
      · exact absurd ht h0
    · exact Or.inl
  refine ⟨h1, h2, fun K x h hm => ?_, fun K x j ha ht => h4 K x j ((e2 K x j ht).mp ha) ht⟩
  obtain ⟨a1, a2, a3, a4, a5, a6⟩ := h3 K x h hm
  refine ⟨a1, a2, a3, a4, a5, ?_⟩
  rcases a6 with ⟨b1, b2, b3⟩ | ⟨j, b1, b2, b3, b4, b5⟩
  · exact Or.inl ⟨b1, (e2 K x 0 a3).mpr b2, (e2 K x 1 a3).mpr b3⟩
  · exact Or.inr ⟨j, b1, b2, (e2 K x j a3).mpr b3, fun z => b4 ((e2 K x _ a3).mp z), b5⟩
theorem wt_nd {l : List (Nat × Nat × Nat)} (h : (l.map (fun e => (e.1, e.2.1))).Nodup) {K x a b : Nat} (ha : (K, x, a) ∈ l) (hb : (K, x, b) ∈ l) : a = b := by
  induction l with
  | nil => cases ha
  | cons e l ih =>
    rw [List.map_cons, List.nodup_cons] at h
    rcases List.mem_cons.mp ha with ha | ha <;> rcases List.mem_cons.mp hb with hb | hb
    · have := ha.trans hb.symm
      exact congrArg (fun z => z.2.2) this
    · exfalso
      apply h.1
      rw [← ha]
      exact List.mem_map.mpr ⟨_, hb, rfl⟩
    · exfalso
      apply h.1
      rw [← hb]
      exact List.mem_map.mpr ⟨_, ha, rfl⟩
    · exact ih h.2 ha hb
/-- which firing waits at a place -/
theorem wt_at (k : cf_ok c) {A : Nat → Nat → Nat → Prop} {tl tr ta : Nat → Int32} {N : Nat} {wl : List (Nat × Nat × Nat)} {wn wt wv wi : Nat → Int32} {K0 x0 t0 h : Nat} (hN1 : 1 ≤ N) (hN : N ≤ 1000) (w : wt_I c A tl tr ta N wl wn wt wv wi)
    (h0 : mr c K0 x0 = true) (tw0 : mc_tw c K0) (ht : tg_is tl tr ta N (mg c K0) t0) (hh : h < 8192) (en : wn h = nI (mc_nd c K0 x0)) (et : wt h = nI t0) : (K0, x0, h) ∈ wl := by
  obtain ⟨h1, h2, h3, h4⟩ := w
  have hb := df_nd_lo k h0
  have hb2 := cf_nb_le (c := c) (cf_n c)
  have h20 := k.1.1
  rcases h2 h hh with z | ⟨K, x, hm⟩
  · exfalso
    rw [en] at z
    have : (nI (mc_nd c K0 x0)).toInt = (-1 : Int32).toInt := congrArg Int32.toInt z
    rw [nI_toInt (by omega), show (-1 : Int32).toInt = -1 from by decide] at this
    omega
  · obtain ⟨a1, a2, a3, a4, ⟨t, b1, b2, b3⟩, a6⟩ := h3 K x h hm
    have hb3 := df_nd_lo k a2
    have e1 : mc_nd c K x = mc_nd c K0 x0 := (nI_eq (by omega) (by omega)).mp (a4.symm.trans en)
    have l1 := tg_lt hN1 _ _ b2
    have l2 := tg_lt hN1 _ _ ht
    have e2 : t = t0 := (nI_eq (by omega) (by omega)).mp (b1.symm.trans et)
    subst e2
    have e3 := tg_i hN _ _ _ b2 ht
    obtain ⟨e4, e5⟩ := mc_u k a2 h0 (mc_tw_s k a3 a2 (j := 0) (by omega)) (mc_tw_s k tw0 h0 (j := 0) (by omega)) e1 e3
    rw [← e4, ← e5]; exact hm
/-- the other input is there -/
theorem wt_m (k : cf_ok c) {A A' : Nat → Nat → Nat → Prop} {tl tr ta : Nat → Int32} {N : Nat} {wl : List (Nat × Nat × Nat)} {wn wt wv wi : Nat → Int32} {K0 x0 j0 h0 : Nat} (hN1 : 1 ≤ N) (hN : N ≤ 1000) (w : wt_I c A tl tr ta N wl wn wt wv wi)
    (e : ∀ K x j, A' K x j ↔ A K x j ∨ (K = K0 ∧ x = x0 ∧ j = j0)) (hj : j0 < 2) (hm : (K0, x0, h0) ∈ wl) (ha : A K0 x0 (1 - j0)) : wt_I c A' tl tr ta N wl wn wt wv (upd wi h0 2) := by
  have w0 := w
  obtain ⟨h1, h2, h3, h4⟩ := w
  refine ⟨h1, h2, fun K x h hmm => ?_, fun K x j hA ht => ?_⟩
  · obtain ⟨a1, a2, a3, a4, a5, a6⟩ := h3 K x h hmm
    refine ⟨a1, a2, a3, a4, a5, ?_⟩
    by_cases g : K = K0 ∧ x = x0
    · obtain ⟨rfl, rfl⟩ := g
      have := wt_nd h1 hmm hm
      subst this
      refine Or.inl ⟨pk_us, ?_, ?_⟩
      · rw [e]
        rcases (by omega : j0 = 0 ∨ j0 = 1) with rfl | rfl
        · exact Or.inr ⟨rfl, rfl, rfl⟩
        · exact Or.inl ha
      · rw [e]
        rcases (by omega : j0 = 0 ∨ j0 = 1) with rfl | rfl
        · exact Or.inl ha
        · exact Or.inr ⟨rfl, rfl, rfl⟩
    · have hne : h ≠ h0 := by
        rintro rfl
        obtain ⟨b1, b2, b3, b4, ⟨t, c1, c2, c3⟩, b6⟩ := h3 K0 x0 h hm
        have hin := wt_at k hN1 hN w0 b2 b3 c2 b1 b4 c1
        obtain ⟨t', d1, d2, d3⟩ := a5
        have hb := df_nd_lo k b2
        have hb' := df_nd_lo k a2
        have hb2 := cf_nb_le (c := c) (cf_n c)
        have h20 := k.1.1
        have e1 : mc_nd c K x = mc_nd c K0 x0 := (nI_eq (by omega) (by omega)).mp (a4.symm.trans b4)
        have l1 := tg_lt hN1 _ _ c2
        have l2 := tg_lt hN1 _ _ d2
        have e2 : t = t' := (nI_eq (by omega) (by omega)).mp (c1.symm.trans d1)
        subst e2
        have e3 := tg_i hN _ _ _ d2 c2
        exact g (mc_u k a2 b2 (mc_tw_s k a3 a2 (j := 0) (by omega)) (mc_tw_s k b3 b2 (j := 0) (by omega)) e1 e3)
      have e2 : ∀ j, A' K x j ↔ A K x j := by
        intro j
        rw [e]
        constructor
        · rintro (z | ⟨z1, z2, _⟩)
          · exact z
          · exact absurd ⟨z1, z2⟩ g
        · exact Or.inl
      rw [pk_un hne]
      rcases a6 with ⟨b1, b2, b3⟩ | ⟨j, b1, b2, b3, b4, b5⟩
      · exact Or.inl ⟨b1, (e2 0).mpr b2, (e2 1).mpr b3⟩
      · exact Or.inr ⟨j, b1, b2, (e2 j).mpr b3, fun z => b4 ((e2 _).mp z), b5⟩
  · rcases (e K x j).mp hA with z | ⟨rfl, rfl, rfl⟩
    · exact h4 K x j z ht
    · exact ⟨h0, hm⟩
/-- a token that waits -/
theorem wt_w (k : cf_ok c) {A A' : Nat → Nat → Nat → Prop} {tl tr ta : Nat → Int32} {N : Nat} {wl : List (Nat × Nat × Nat)} {wn wt wv wi : Nat → Int32} {K0 x0 j0 h0 t0 d0 : Nat} {v : Int32} (w : wt_I c A tl tr ta N wl wn wt wv wi)
    (e : ∀ K x j, A' K x j ↔ A K x j ∨ (K = K0 ∧ x = x0 ∧ j = j0)) (hj : j0 < 2) (hr : mr c K0 x0 = true) (tw : mc_tw c K0) (hh : h0 < 8192) (hw : wn h0 = -1) (hno : ∀ h, (K0, x0, h) ∉ wl)
    (ht : tg_is tl tr ta N (mg c K0) t0) (hd : d0 < 8192) (he : h0 = (hs_h (mc_nd c K0 x0) t0 + d0) % 8192) (hp : ∀ d', d' < d0 → wn ((hs_h (mc_nd c K0 x0) t0 + d') % 8192) ≠ -1) (hv : v = mv c K0 (mc_sv c K0 x0 j0)) :
    wt_I c A' tl tr ta N ((K0, x0, h0) :: wl) (upd wn h0 (nI (mc_nd c K0 x0))) (upd wt h0 (nI t0)) (upd wv h0 v) (upd wi h0 (nI j0)) := by
  obtain ⟨h1, h2, h3, h4⟩ := w
  have hb := df_nd_lo k hr
  have hb2 := cf_nb_le (c := c) (cf_n c)
  have h20 := k.1.1
  have hn1 : nI (mc_nd c K0 x0) ≠ -1 := by
    intro z
    have : (nI (mc_nd c K0 x0)).toInt = (-1 : Int32).toInt := congrArg Int32.toInt z
    rw [nI_toInt (by omega), show (-1 : Int32).toInt = -1 from by decide] at this
    omega
  have hup : ∀ q, wn q ≠ -1 → upd wn h0 (nI (mc_nd c K0 x0)) q ≠ -1 := by
    intro q hq
    by_cases g : q = h0
    · subst g; rw [pk_us]; exact hn1
    · rw [pk_un g]; exact hq
  refine ⟨?_, ?_, ?_, ?_⟩
  · rw [List.map_cons, List.nodup_cons]
    refine ⟨?_, h1⟩
    intro z
    obtain ⟨⟨K, x, h⟩, hm, ee⟩ := List.mem_map.mp z
    have e1 : K = K0 := congrArg (fun z => z.1) ee
    have e2 : x = x0 := congrArg (fun z => z.2) ee
    subst e1 e2
    exact hno h hm
  · intro h hh'
    by_cases g : h = h0
    · subst g; exact Or.inr ⟨K0, x0, List.mem_cons_self ..⟩
    · rw [pk_un g]
      rcases h2 h hh' with z | ⟨K, x, z⟩
      · exact Or.inl z
      · exact Or.inr ⟨K, x, List.mem_cons_of_mem _ z⟩
  · intro K x h hm
    rcases List.mem_cons.mp hm with z | z
    · cases z
      refine ⟨hh, hr, tw, pk_us, ⟨t0, pk_us, ht, d0, hd, he, fun d' hd' => hup _ (hp d' hd')⟩, Or.inr ⟨j0, hj, pk_us, (e _ _ _).mpr (Or.inr ⟨rfl, rfl, rfl⟩), ?_, by rw [pk_us]; exact hv⟩⟩
      intro z
      rcases (e _ _ _).mp z with z | ⟨_, _, z⟩
      · obtain ⟨q, hq⟩ := h4 _ _ _ z tw
        exact hno q hq
      · omega
    · obtain ⟨a1, a2, a3, a4, ⟨t, b1, b2, d, b3, b4, b5⟩, a6⟩ := h3 K x h z
      have hne : h ≠ h0 := by
        rintro rfl
        rw [hw] at a4
        have hb' := df_nd_lo k a2
        have : (nI (mc_nd c K x)).toInt = (-1 : Int32).toInt := congrArg Int32.toInt a4.symm
        rw [nI_toInt (by omega), show (-1 : Int32).toInt = -1 from by decide] at this
        omega
      have hg : ¬ (K = K0 ∧ x = x0) := by
        rintro ⟨rfl, rfl⟩
        exact hno h z
      have e2 : ∀ j, A' K x j ↔ A K x j := by
        intro j
        rw [e]
        constructor
        · rintro (z | ⟨z1, z2, _⟩)
          · exact z
          · exact absurd ⟨z1, z2⟩ hg
        · exact Or.inl
      refine ⟨a1, a2, a3, by rw [pk_un hne]; exact a4, ⟨t, by rw [pk_un hne]; exact b1, b2, d, b3, b4, fun d' hd' => hup _ (b5 d' hd')⟩, ?_⟩
      rw [pk_un hne, pk_un hne]
      rcases a6 with ⟨b1, b2, b3⟩ | ⟨j, b1, b2, b3, b4, b5⟩
      · exact Or.inl ⟨b1, (e2 0).mpr b2, (e2 1).mpr b3⟩
      · exact Or.inr ⟨j, b1, b2, (e2 j).mpr b3, fun z => b4 ((e2 _).mp z), b5⟩
  · intro K x j hA ht'
    rcases (e K x j).mp hA with z | ⟨rfl, rfl, rfl⟩
    · obtain ⟨h, hq⟩ := h4 K x j z ht'
      exact ⟨h, List.mem_cons_of_mem _ hq⟩
    · exact ⟨h0, List.mem_cons_self ..⟩
/-- the table is never full -/
theorem wt_free (k : cf_ok c) {D pr ρ : List (Nat × Nat)} {T : Nat × Nat} {tl tr ta : Nat → Int32} {N : Nat} {wl : List (Nat × Nat × Nat)} {wn wt wv wi : Nat → Int32} (w : wt_I c (df_A c D T pr) tl tr ta N wl wn wt wv wi)
    (hP : df_pl c (df_A c D T pr) (T :: D) ρ) (hD : (T :: D).length ≤ 405) : ∃ h, h < 8192 ∧ wn h = -1 := by
  obtain ⟨h1, h2, h3, h4⟩ := w
  by_cases g : ∃ h, h < 8192 ∧ wn h = -1
  · exact g
  · exfalso
    have hl := df_pig (List.range 8192) (wl.map (fun e => e.2.2)) List.nodup_range (by
      intro h hh
      have hh := List.mem_range.mp hh
      rcases h2 h hh with z | ⟨K, x, z⟩
      · exact absurd ⟨h, hh, z⟩ g
      · exact List.mem_map.mpr ⟨_, z, rfl⟩)
    have hw := df_wait k (df_dcs hP) hD (G := (wl.map (fun e => (e.1, e.2.1))).map (fun e => (e.1 + 1, e.2))) (by
      apply df_map _ _ h1
      intro a _ b _ ee
      have e1 : a.1 + 1 = b.1 + 1 := congrArg (fun z => z.1) ee
      have e2 : a.2 = b.2 := congrArg (fun z => z.2) ee
      exact Prod.ext (by omega) e2) (by
      intro U hU
      obtain ⟨p, hp, rfl⟩ := List.mem_map.mp hU
      obtain ⟨⟨K, x, h⟩, hm, rfl⟩ := List.mem_map.mp hp
      obtain ⟨a1, a2, a3, a4, a5, a6⟩ := h3 K x h hm
      have hj : ∃ j, df_A c D T pr K x j := by
        rcases a6 with ⟨_, b2, _⟩ | ⟨j, _, _, b3, _⟩
        · exact ⟨0, b2⟩
        · exact ⟨j, b3⟩
      obtain ⟨j, b1, b2, b3 | ⟨b3, _⟩⟩ := hj
      · exact ⟨K, rfl, a2, j, b2, List.mem_cons_of_mem _ b3⟩
      · exact ⟨K, rfl, a2, j, b2, by rw [b3]; exact List.mem_cons_self ..⟩)
    rw [List.length_map, List.length_map] at hw
    rw [List.length_map, List.length_range] at hl
    omega
end
end
section
/-! a token arrives -/
def cf_nkd (e : Nat) : Int32 := match e with
  | 0 => 2
  | 1 => 3
  | 2 => 4
  | 4 => 6
  | 5 => 4
  | 6 => 5
  | 7 => 6
  | 8 => 7
  | _ => 1
section
variable {c : CF}
theorem cf_node (k : cf_ok c) {i f x j : Nat} (v : cf_pos c i f) (s : cf_sl c i f x j) : cf_kk c (cf_n c) (cf_nd c i f x) = cf_nkd (cf_ek c i f) ∧ (cf_ek c i f ≤ 1 → cf_nn c (cf_n c) (cf_nd c i f x) = cf_lb c i) ∧
    (cf_ek c i f = 4 → cf_nn c (cf_n c) (cf_nd c i f x) = nI i) ∧ (cf_ek c i f = 7 → cf_nn c (cf_n c) (cf_nd c i f x) = nI (cf_op c i)) ∧ (cf_ek c i f = 9 → cf_nn c (cf_n c) (cf_nd c i f x) = nI x) := by
  rcases cf_cases k v with ⟨e, hi, hf, hk⟩ | ⟨e, hi, hf, hk⟩ | ⟨e, hi, hf, hk⟩ | ⟨e, hi, hf, hk⟩ | ⟨e, hi, hf, hk⟩ | ⟨e, hi, hf, hk⟩ | ⟨e, hi, hf, hk, hk2⟩ | ⟨e, hi, hf, hk, hk2⟩ | ⟨e, hi, hf, hk, hk2⟩ | ⟨e, hn, hf⟩
  · obtain ⟨a, b⟩ := cf_kk_n (c := c) (i := i) (s := 0) (by rw [cf_wd1 (by omega)]; omega) hi
    simp only [cf_nd, e, Nat.add_zero] at a b ⊢
    rw [a, b]
    refine ⟨?_, fun _ => ?_, fun z => by omega, fun z => by omega, fun z => by omega⟩
    · rw [cf_NK, if_pos hk]; rfl
    · rw [cf_NN, if_pos (by omega)]
  · obtain ⟨a, b⟩ := cf_kk_n (c := c) (i := i) (s := 0) (by rw [cf_wd1 (by omega)]; omega) hi
    simp only [cf_nd, e, Nat.add_zero] at a b ⊢
    rw [a, b]
    refine ⟨?_, fun _ => ?_, fun z => by omega, fun z => by omega, fun z => by omega⟩
    · rw [cf_NK, if_neg (by omega), if_pos hk]; rfl
    · rw [cf_NN, if_pos (by omega)]
  · have hx := ((cf_sl_e e).mp s).1
    obtain ⟨a, b⟩ := cf_kk_n (c := c) (i := i) (s := x) (by rw [cf_wd5 (Or.inl hk)]; exact hx) hi
    simp only [cf_nd, e]
    rw [a, b]
    refine ⟨?_, fun z => by omega, fun z => by omega, fun z => by omega, fun z => by omega⟩
    rw [cf_NK, if_neg (by omega), if_neg (by omega), if_pos hk]; rfl
  · exact ((cf_sl_e e).mp s).elim
  · have hx := ((cf_sl_e e).mp s).1
    obtain ⟨a, b⟩ := cf_kk_n (c := c) (i := i) (s := x) (by rw [cf_wd10 hk]; omega) hi
    simp only [cf_nd, e]
    rw [a, b]
    refine ⟨?_, fun z => by omega, fun z => ?_, fun z => by omega, fun z => by omega⟩
    · rw [cf_NK, if_neg (by omega), if_neg (by omega), if_neg (by omega), if_pos hk, if_pos hx]; rfl
    · rw [cf_NN, if_neg (by omega), if_pos hk, if_pos hx]
  · have hx := ((cf_sl_e e).mp s).1
    obtain ⟨a, b⟩ := cf_kk_n (c := c) (i := i) (s := 5 + x) (by rw [cf_wd10 hk]; omega) hi
    simp only [cf_nd, e]
    rw [a, b]
    refine ⟨?_, fun z => by omega, fun z => by omega, fun z => by omega, fun z => by omega⟩
    rw [cf_NK, if_neg (by omega), if_neg (by omega), if_neg (by omega), if_pos hk, if_neg (by omega)]; rfl
  · have hx := ((cf_sl_e e).mp s).1
    obtain ⟨a, b⟩ := cf_kk_n (c := c) (i := i) (s := x) (by rw [cf_wd5 (Or.inr hk)]; exact hx) hi
    simp only [cf_nd, e]
    rw [a, b]
    refine ⟨?_, fun z => by omega, fun z => by omega, fun z => by omega, fun z => by omega⟩
    rw [cf_NK, if_neg (by omega), if_neg (by omega), if_neg (by omega), if_neg (by omega), if_pos hk2]; rfl
  · have hx := ((cf_sl_e e).mp s).1
    have ho := (cf_cl_c k hi hk).1
    obtain ⟨a, b⟩ := cf_kk_n (c := c) (i := cf_op c i) (s := x) (by rw [cf_wd10 hk2]; omega) (by omega)
    simp only [cf_nd, e]
    rw [a, b]
    refine ⟨?_, fun z => by omega, fun z => by omega, fun z => ?_, fun z => by omega⟩
    · rw [cf_NK, if_neg (by omega), if_neg (by omega), if_neg (by omega), if_pos hk2, if_pos hx]; rfl
    · rw [cf_NN, if_neg (by omega), if_pos hk2, if_pos hx]
  · have hx := ((cf_sl_e e).mp s).1
    obtain ⟨a, b⟩ := cf_kk_n (c := c) (i := i) (s := x) (by rw [cf_wd5 (Or.inr hk)]; exact hx) hi
    simp only [cf_nd, e]
    rw [a, b]
    refine ⟨?_, fun z => by omega, fun z => by omega, fun z => by omega, fun z => by omega⟩
    rw [cf_NK, if_neg (by omega), if_neg (by omega), if_neg (by omega), if_neg (by omega), if_neg (by omega)]; rfl
  · have hx := ((cf_sl_e e).mp s).1
    obtain ⟨a, b⟩ := cf_kk_0 (c := c) (m := 5 + x) (by omega) (cf_n c)
    simp only [cf_nd, e]
    rw [a, b]
    refine ⟨?_, fun z => by omega, fun z => by omega, fun z => by omega, fun z => ?_⟩
    · rw [if_neg (by omega)]; rfl
    · rw [if_neg (by omega), Nat.add_sub_cancel_left]
def rd_ok (c : CF) (tl tr ta : Nat → Int32) (N : Nat) (T : Nat × Nat) (n t a b i : Int32) : Prop := ∃ K, T.1 = K + 1 ∧ mr c K T.2 = true ∧ n = nI (mc_nd c K T.2) ∧ (∃ t', t = nI t' ∧ tg_is tl tr ta N (mg c K) t') ∧
  (mc_tw c K → a = mv c K (mc_sv c K T.2 0) ∧ b = mv c K (mc_sv c K T.2 1)) ∧ (¬ mc_tw c K → me c K ≠ 0 → a = mv c K T.2 ∧ i = nI (cf_in c (mi c K) (mf c K)))
def rr_I (c : CF) (tl tr ta : Nat → Int32) (N : Nat) (ρ : List (Nat × Nat)) (rf : Nat) (ff ft : Int32) (rn rt ra rb ri : Nat → Int32) : Prop :=
  ff = nI rf ∧ ft = nI (rf + ρ.length) ∧ ∀ (q : Nat) (T : Nat × Nat), ρ[q]? = some T → rd_ok c tl tr ta N T (rn (rf + q)) (rt (rf + q)) (ra (rf + q)) (rb (rf + q)) (ri (rf + q))
theorem rd_up {tl tr ta : Nat → Int32} {N : Nat} {T : Nat × Nat} {n t a b i p q r : Int32} (h : rd_ok c tl tr ta N T n t a b i) : rd_ok c (upd tl N p) (upd tr N q) (upd ta N r) (N + 1) T n t a b i := by
  obtain ⟨K, h1, h2, h3, ⟨t', h4, h5⟩, h6⟩ := h
  exact ⟨K, h1, h2, h3, ⟨t', h4, tg_up _ _ h5⟩, h6⟩
theorem rr_up {tl tr ta : Nat → Int32} {N : Nat} {ρ : List (Nat × Nat)} {rf : Nat} {ff ft : Int32} {rn rt ra rb ri : Nat → Int32} {p q r : Int32} (h : rr_I c tl tr ta N ρ rf ff ft rn rt ra rb ri) : rr_I c (upd tl N p) (upd tr N q) (upd ta N r) (N + 1) ρ rf ff ft rn rt ra rb ri :=
  ⟨h.1, h.2.1, fun a T hT => rd_up (h.2.2 a T hT)⟩
theorem rr_a {tl tr ta : Nat → Int32} {N : Nat} {ρ : List (Nat × Nat)} {rf : Nat} {ff ft : Int32} {rn rt ra rb ri : Nat → Int32} {T : Nat × Nat} {n t a b i : Int32} (h : rr_I c tl tr ta N ρ rf ff ft rn rt ra rb ri) (hT : rd_ok c tl tr ta N T n t a b i) :
    rr_I c tl tr ta N (ρ ++ [T]) rf ff (nI (rf + ρ.length + 1)) (upd rn (rf + ρ.length) n) (upd rt (rf + ρ.length) t) (upd ra (rf + ρ.length) a) (upd rb (rf + ρ.length) b) (upd ri (rf + ρ.length) i) := by
  refine ⟨h.1, by rw [List.length_append]; rfl, fun q U hU => ?_⟩
  by_cases g : q < ρ.length
  · rw [List.getElem?_append_left g] at hU
    have hne : rf + q ≠ rf + ρ.length := by omega
    rw [pk_un hne, pk_un hne, pk_un hne, pk_un hne, pk_un hne]
    exact h.2.2 q U hU
  · rw [List.getElem?_append_right (by omega)] at hU
    have hq : q - ρ.length = 0 := by
      by_cases z : q - ρ.length = 0
      · exact z
      · rw [List.getElem?_eq_none (by simp only [List.length_singleton]; omega)] at hU
        cases hU
    rw [hq] at hU
    have hU2 : T = U := Option.some.inj hU
    subst hU2
    have : q = ρ.length := by omega
    subst this
    rw [pk_us, pk_us, pk_us, pk_us, pk_us]
    exact hT
def rs_I (c : CF) (fg : Bool) (D : List (Nat × Nat)) (T : Nat × Nat) (pr : List (Nat × Nat)) (res rsT : Nat → Int32) : Prop :=
  ∀ x K, x < 5 → cf_n c ≤ mi c K → ((mp c K x, x) ∈ D ∨ ((mp c K x, x) = T ∧ (5 + x, 0) ∈ pr)) → res x = mv c K x ∧ (fg = true → rsT x = nI (mt c K x))
def rn_I (c : CF) (fo : Int32) (fl : Nat → Int32) (fg : Bool) (D : List (Nat × Nat)) (T : Nat × Nat) (pr ρ : List (Nat × Nat)) (N rf sc : Nat) (nw : Int32) (sa : Nat → Int32) (u : SX) : Prop := tg_I c fo fl u ∧ (match u with
  | (f_lines, f_opened, f_nodes, f_edges, f_depth, f_tags, f_readyFrom, f_readyTo, f_ranOrder, f_isRun, f_ended, f_stepCount, f_now, a_lineKind, a_lineA, a_lineB, a_lineC, a_lineD, a_openLine, a_start, a_nodeKind, a_nodeNumber, a_firstEdge, a_edgeTo, a_edgeInput, a_nextEdge, a_current, a_keptFirst, a_keptSecond, a_openIs, a_hasOther, a_tagLoop, a_tagRound, a_tagAround, a_waitNode, a_waitTag, a_waitValue, a_waitInput, a_readyNode, a_readyTag, a_readyA, a_readyB, a_readyInput, a_result, a_resultTime, a_stepsAt) => (f_tags = nI N ∧ 1 ≤ N ∧ tg_T a_tagLoop a_tagRound a_tagAround N) ∧ (∃ wl, wt_I c (df_A c D T pr) a_tagLoop a_tagRound a_tagAround N wl a_waitNode a_waitTag a_waitValue a_waitInput) ∧
    rr_I c a_tagLoop a_tagRound a_tagAround N ρ rf f_readyFrom f_readyTo a_readyNode a_readyTag a_readyA a_readyB a_readyInput ∧ rs_I c fg D T pr a_result a_resultTime ∧ f_stepCount = nI sc ∧ f_now = nw ∧ a_stepsAt = sa)
end
section
variable {c : CF} {fo : Int32} {fl : Nat → Int32} {fg : Bool}
variable {f_lines f_opened f_nodes f_edges f_depth f_tags f_readyFrom f_readyTo f_ranOrder f_isRun f_ended f_stepCount f_now : Int32} {a_lineKind a_lineA a_lineB a_lineC a_lineD a_openLine a_start a_nodeKind a_nodeNumber a_firstEdge a_edgeTo a_edgeInput a_nextEdge a_current a_keptFirst a_keptSecond a_openIs a_hasOther a_tagLoop a_tagRound a_tagAround a_waitNode a_waitTag a_waitValue a_waitInput a_readyNode a_readyTag a_readyA a_readyB a_readyInput a_result a_resultTime a_stepsAt : Nat → Int32}
theorem tgx_el (h : tg_I c fo fl (f_lines, f_opened, f_nodes, f_edges, f_depth, f_tags, f_readyFrom, f_readyTo, f_ranOrder, f_isRun, f_ended, f_stepCount, f_now, a_lineKind, a_lineA, a_lineB, a_lineC, a_lineD, a_openLine, a_start, a_nodeKind, a_nodeNumber, a_firstEdge, a_edgeTo, a_edgeInput, a_nextEdge, a_current, a_keptFirst, a_keptSecond, a_openIs, a_hasOther, a_tagLoop, a_tagRound, a_tagAround, a_waitNode, a_waitTag, a_waitValue, a_waitInput, a_readyNode, a_readyTag, a_readyA, a_readyB, a_readyInput, a_result, a_resultTime, a_stepsAt)) : (f_lines = nI (cf_n c) ∧ f_opened = fo ∧ a_lineKind = c.2.1 ∧ a_lineA = c.2.2.1 ∧ a_lineB = c.2.2.2.1 ∧ a_lineC = c.2.2.2.2.1 ∧ a_lineD = c.2.2.2.2.2.1 ∧ a_openLine = fl ∧ a_start = c.2.2.2.2.2.2) ∧ gp_I c ((cf_all c).map (cf_E c)) (cf_nb c (cf_n c)) f_nodes f_edges a_nodeKind a_nodeNumber a_firstEdge a_edgeTo a_edgeInput a_nextEdge := h
theorem tgx_mk (h : (f_lines = nI (cf_n c) ∧ f_opened = fo ∧ a_lineKind = c.2.1 ∧ a_lineA = c.2.2.1 ∧ a_lineB = c.2.2.2.1 ∧ a_lineC = c.2.2.2.2.1 ∧ a_lineD = c.2.2.2.2.2.1 ∧ a_openLine = fl ∧ a_start = c.2.2.2.2.2.2) ∧ gp_I c ((cf_all c).map (cf_E c)) (cf_nb c (cf_n c)) f_nodes f_edges a_nodeKind a_nodeNumber a_firstEdge a_edgeTo a_edgeInput a_nextEdge) : tg_I c fo fl (f_lines, f_opened, f_nodes, f_edges, f_depth, f_tags, f_readyFrom, f_readyTo, f_ranOrder, f_isRun, f_ended, f_stepCount, f_now, a_lineKind, a_lineA, a_lineB, a_lineC, a_lineD, a_openLine, a_start, a_nodeKind, a_nodeNumber, a_firstEdge, a_edgeTo, a_edgeInput, a_nextEdge, a_current, a_keptFirst, a_keptSecond, a_openIs, a_hasOther, a_tagLoop, a_tagRound, a_tagAround, a_waitNode, a_waitTag, a_waitValue, a_waitInput, a_readyNode, a_readyTag, a_readyA, a_readyB, a_readyInput, a_result, a_resultTime, a_stepsAt) := h
theorem xs_mr {post : SX → Prop} {q : Nat} {p0 p1 p2 p3 p4 : Int32} (hq : f_readyTo = nI q) (h : q < 5000)
    (H : post (f_lines, f_opened, f_nodes, f_edges, f_depth, f_tags, f_readyFrom, nI (q + 1), f_ranOrder, f_isRun, f_ended, f_stepCount, f_now, a_lineKind, a_lineA, a_lineB, a_lineC, a_lineD, a_openLine, a_start, a_nodeKind, a_nodeNumber, a_firstEdge, a_edgeTo, a_edgeInput, a_nextEdge, a_current, a_keptFirst, a_keptSecond, a_openIs, a_hasOther, a_tagLoop, a_tagRound, a_tagAround, a_waitNode, a_waitTag, a_waitValue, a_waitInput, upd a_readyNode q p0, upd a_readyTag q p1, upd a_readyA q p2, upd a_readyB q p3, upd a_readyInput q p4, a_result, a_resultTime, a_stepsAt)) : wpX_makeReady post (f_lines, f_opened, f_nodes, f_edges, f_depth, f_tags, f_readyFrom, f_readyTo, f_ranOrder, f_isRun, f_ended, f_stepCount, f_now, a_lineKind, a_lineA, a_lineB, a_lineC, a_lineD, a_openLine, a_start, a_nodeKind, a_nodeNumber, a_firstEdge, a_edgeTo, a_edgeInput, a_nextEdge, a_current, a_keptFirst, a_keptSecond, a_openIs, a_hasOther, a_tagLoop, a_tagRound, a_tagAround, a_waitNode, a_waitTag, a_waitValue, a_waitInput, a_readyNode, a_readyTag, a_readyA, a_readyB, a_readyInput, a_result, a_resultTime, a_stepsAt) p0 p1 p2 p3 p4 := by
  subst hq
  have hin : vp_in (nI q) 5000 := vp_in_nI h (by decide)
  have hc : (nI q).toNatClampNeg = q := nI_clamp (by omega)
  exact And.intro hin (nm_r (e' := upd a_readyNode q p0) (by rw [hc]) (And.intro hin (nm_r (e' := upd a_readyTag q p1) (by rw [hc]) (And.intro hin (nm_r (e' := upd a_readyA q p2) (by rw [hc]) (And.intro hin (nm_r (e' := upd a_readyB q p3) (by rw [hc]) (And.intro hin (nm_r (e' := upd a_readyInput q p4) (by rw [hc]) (nm_r (e' := nI (q + 1)) (nI_1 q) H))))))))))
theorem xs_n1 {post : Int32 → Prop} {n : Nat} (hn : n < 320) (h : a_nodeKind n = 3 ∨ a_nodeKind n = 4) (H : post 1) : wpX_needsTwo post (f_lines, f_opened, f_nodes, f_edges, f_depth, f_tags, f_readyFrom, f_readyTo, f_ranOrder, f_isRun, f_ended, f_stepCount, f_now, a_lineKind, a_lineA, a_lineB, a_lineC, a_lineD, a_openLine, a_start, a_nodeKind, a_nodeNumber, a_firstEdge, a_edgeTo, a_edgeInput, a_nextEdge, a_current, a_keptFirst, a_keptSecond, a_openIs, a_hasOther, a_tagLoop, a_tagRound, a_tagAround, a_waitNode, a_waitTag, a_waitValue, a_waitInput, a_readyNode, a_readyTag, a_readyA, a_readyB, a_readyInput, a_result, a_resultTime, a_stepsAt) (nI n) := by
  have hin : vp_in (nI n) 320 := vp_in_nI hn (by decide)
  have hc : (nI n).toNatClampNeg = n := nI_clamp (by omega)
  refine And.intro hin ?_
  rw [hc]
  rcases h with h | h
  · exact br_t h H
  · exact br_f (by rw [h]; decide) (And.intro hin (br_t h H))
theorem xs_n0 {post : Int32 → Prop} {n : Nat} (hn : n < 320) (h3 : a_nodeKind n ≠ 3) (h4 : a_nodeKind n ≠ 4) (H : post 0) : wpX_needsTwo post (f_lines, f_opened, f_nodes, f_edges, f_depth, f_tags, f_readyFrom, f_readyTo, f_ranOrder, f_isRun, f_ended, f_stepCount, f_now, a_lineKind, a_lineA, a_lineB, a_lineC, a_lineD, a_openLine, a_start, a_nodeKind, a_nodeNumber, a_firstEdge, a_edgeTo, a_edgeInput, a_nextEdge, a_current, a_keptFirst, a_keptSecond, a_openIs, a_hasOther, a_tagLoop, a_tagRound, a_tagAround, a_waitNode, a_waitTag, a_waitValue, a_waitInput, a_readyNode, a_readyTag, a_readyA, a_readyB, a_readyInput, a_result, a_resultTime, a_stepsAt) (nI n) := by
  have hin : vp_in (nI n) 320 := vp_in_nI hn (by decide)
  have hc : (nI n).toNatClampNeg = n := nI_clamp (by omega)
  refine And.intro hin ?_
  rw [hc]
  exact br_f h3 (And.intro hin (br_f h4 H))
theorem xs_mt (k : cf_ok c) {post : SX → Prop} {A : Nat → Nat → Nat → Prop} {N : Nat} {wl : List (Nat × Nat × Nat)} {K0 x0 j0 t0 : Nat} {v : Int32} (hN1 : 1 ≤ N) (hN : N ≤ 1000)
    (hT : tg_T a_tagLoop a_tagRound a_tagAround N) (w : wt_I c A a_tagLoop a_tagRound a_tagAround N wl a_waitNode a_waitTag a_waitValue a_waitInput)
    (h0 : mr c K0 x0 = true) (tw0 : mc_tw c K0) (ht : tg_is a_tagLoop a_tagRound a_tagAround N (mg c K0) t0) (hj : j0 < 2) (hA : ¬ A K0 x0 j0) (hf : ∃ h, h < 8192 ∧ a_waitNode h = -1)
    (HM : ∀ h, (K0, x0, h) ∈ wl → A K0 x0 (1 - j0) → wpX_makeReady (fun u => match u with | (f_lines, f_opened, f_nodes, f_edges, f_depth, f_tags, f_readyFrom, f_readyTo, f_ranOrder, f_isRun, f_ended, f_stepCount, f_now, a_lineKind, a_lineA, a_lineB, a_lineC, a_lineD, a_openLine, a_start, a_nodeKind, a_nodeNumber, a_firstEdge, a_edgeTo, a_edgeInput, a_nextEdge, a_current, a_keptFirst, a_keptSecond, a_openIs, a_hasOther, a_tagLoop, a_tagRound, a_tagAround, a_waitNode, a_waitTag, a_waitValue, a_waitInput, a_readyNode, a_readyTag, a_readyA, a_readyB, a_readyInput, a_result, a_resultTime, a_stepsAt) => post (f_lines, f_opened, f_nodes, f_edges, f_depth, f_tags, f_readyFrom, f_readyTo, f_ranOrder, f_isRun, f_ended, f_stepCount, f_now, a_lineKind, a_lineA, a_lineB, a_lineC, a_lineD, a_openLine, a_start, a_nodeKind, a_nodeNumber, a_firstEdge, a_edgeTo, a_edgeInput, a_nextEdge, a_current, a_keptFirst, a_keptSecond, a_openIs, a_hasOther, a_tagLoop, a_tagRound, a_tagAround, a_waitNode, a_waitTag, a_waitValue, a_waitInput, a_readyNode, a_readyTag, a_readyA, a_readyB, a_readyInput, a_result, a_resultTime, a_stepsAt)) (f_lines, f_opened, f_nodes, f_edges, f_depth, f_tags, f_readyFrom, f_readyTo, f_ranOrder, f_isRun, f_ended, f_stepCount, f_now, a_lineKind, a_lineA, a_lineB, a_lineC, a_lineD, a_openLine, a_start, a_nodeKind, a_nodeNumber, a_firstEdge, a_edgeTo, a_edgeInput, a_nextEdge, a_current, a_keptFirst, a_keptSecond, a_openIs, a_hasOther, a_tagLoop, a_tagRound, a_tagAround, a_waitNode, a_waitTag, a_waitValue, upd a_waitInput h 2, a_readyNode, a_readyTag, a_readyA, a_readyB, a_readyInput, a_result, a_resultTime, a_stepsAt) (nI (mc_nd c K0 x0)) (nI t0) (if j0 = 0 then v else mv c K0 (mc_sv c K0 x0 (1 - j0))) (if j0 = 0 then mv c K0 (mc_sv c K0 x0 (1 - j0)) else v) 0)
    (HW : ∀ h d, h < 8192 → a_waitNode h = -1 → (∀ h', (K0, x0, h') ∉ wl) → d < 8192 → h = (hs_h (mc_nd c K0 x0) t0 + d) % 8192 → (∀ d', d' < d → a_waitNode ((hs_h (mc_nd c K0 x0) t0 + d') % 8192) ≠ -1) →
      post (f_lines, f_opened, f_nodes, f_edges, f_depth, f_tags, f_readyFrom, f_readyTo, f_ranOrder, f_isRun, f_ended, f_stepCount, f_now, a_lineKind, a_lineA, a_lineB, a_lineC, a_lineD, a_openLine, a_start, a_nodeKind, a_nodeNumber, a_firstEdge, a_edgeTo, a_edgeInput, a_nextEdge, a_current, a_keptFirst, a_keptSecond, a_openIs, a_hasOther, a_tagLoop, a_tagRound, a_tagAround, upd a_waitNode h (nI (mc_nd c K0 x0)), upd a_waitTag h (nI t0), upd a_waitValue h v, upd a_waitInput h (nI j0), a_readyNode, a_readyTag, a_readyA, a_readyB, a_readyInput, a_result, a_resultTime, a_stepsAt)) :
    ∀ m i, i + m = 8192 → ∀ n, m < n → (∀ d, d < i → a_waitNode ((hs_h (mc_nd c K0 x0) t0 + d) % 8192) ≠ -1 ∧ (K0, x0, (hs_h (mc_nd c K0 x0) t0 + d) % 8192) ∉ wl) →
      wX_match_18 post (nI (mc_nd c K0 x0)) (nI t0) (nI j0) v f_lines f_opened f_nodes f_edges f_depth f_tags f_readyFrom f_readyTo f_ranOrder f_isRun f_ended f_stepCount f_now a_lineKind a_lineA a_lineB a_lineC a_lineD a_openLine a_start a_nodeKind a_nodeNumber a_firstEdge a_edgeTo a_edgeInput a_nextEdge a_current a_keptFirst a_keptSecond a_openIs a_hasOther a_tagLoop a_tagRound a_tagAround a_waitNode a_waitTag a_waitValue a_waitInput a_readyNode a_readyTag a_readyA a_readyB a_readyInput a_result a_resultTime a_stepsAt n (nI ((hs_h (mc_nd c K0 x0) t0 + i) % 8192)) (nI i) := by
  intro m
  induction m with
  | zero =>
    intro i hi n hn hI
    exfalso
    obtain ⟨h, hh, hw⟩ := hf
    have h1 := (hI ((h + 8192 - hs_h (mc_nd c K0 x0) t0 % 8192) % 8192) (by omega)).1
    rw [show (hs_h (mc_nd c K0 x0) t0 + (h + 8192 - hs_h (mc_nd c K0 x0) t0 % 8192) % 8192) % 8192 = h from by omega] at h1
    exact h1 hw
  | succ m ih =>
    intro i hi n hn hI
    obtain ⟨n, rfl⟩ : ∃ n', n = n' + 1 := ⟨n - 1, by omega⟩
    have hi' : i < 8192 := by omega
    have hge : ¬ (8192 : Int32) ≤ nI i := nI_ge (b := 8192) hi' (by decide)
    generalize hgh : (hs_h (mc_nd c K0 x0) t0 + i) % 8192 = h
    have hlt : h < 8192 := by omega
    have hin : vp_in (nI h) 8192 := vp_in_nI hlt (by decide)
    have hcl : (nI h).toNatClampNeg = h := nI_clamp (by omega)
    obtain ⟨w1, w2, w3, w4⟩ := id w
    have hgo : (K0, x0, h) ∉ wl → a_waitNode h ≠ -1 → wX_match_119 post (wX_match_18 post (nI (mc_nd c K0 x0)) (nI t0) (nI j0) v f_lines f_opened f_nodes f_edges f_depth f_tags f_readyFrom f_readyTo f_ranOrder f_isRun f_ended f_stepCount f_now a_lineKind a_lineA a_lineB a_lineC a_lineD a_openLine a_start a_nodeKind a_nodeNumber a_firstEdge a_edgeTo a_edgeInput a_nextEdge a_current a_keptFirst a_keptSecond a_openIs a_hasOther a_tagLoop a_tagRound a_tagAround a_waitNode a_waitTag a_waitValue a_waitInput a_readyNode a_readyTag a_readyA a_readyB a_readyInput a_result a_resultTime a_stepsAt n) (nI (mc_nd c K0 x0)) (nI t0) (nI j0) v (nI h) (nI i) f_lines f_opened f_nodes f_edges f_depth f_tags f_readyFrom f_readyTo f_ranOrder f_isRun f_ended f_stepCount f_now a_lineKind a_lineA a_lineB a_lineC a_lineD a_openLine a_start a_nodeKind a_nodeNumber a_firstEdge a_edgeTo a_edgeInput a_nextEdge a_current a_keptFirst a_keptSecond a_openIs a_hasOther a_tagLoop a_tagRound a_tagAround a_waitNode a_waitTag a_waitValue a_waitInput a_readyNode a_readyTag a_readyA a_readyB a_readyInput a_result a_resultTime a_stepsAt := by
      intro hnw hnn
      refine nm_r (e' := nI ((hs_h (mc_nd c K0 x0) t0 + (i + 1)) % 8192)) ?_ (nm_r (e' := nI (i + 1)) (nI_1 i) ?_)
      · rw [nI_1, pk_andN (by omega) 13 (by decide)]
        exact congrArg nI (by omega)
      · refine ih (i + 1) (by omega) n (by omega) ?_
        intro d hd
        by_cases g : d = i
        · subst g; rw [hgh]; exact ⟨hnn, hnw⟩
        · exact hI d (by omega)
    refine br_f hge (And.intro hin ?_)
    rw [hcl]
    by_cases hw : a_waitNode h = -1
    · refine br_t hw ?_
      have hno : ∀ h', (K0, x0, h') ∉ wl := by
        intro h' hm
        obtain ⟨a1, a2, a3, a4, ⟨t, b1, b2, d, b3, b4, b5⟩, a6⟩ := w3 K0 x0 h' hm
        have : t = t0 := tg_u hT _ _ _ b2 ht
        subst this
        by_cases g : d < i
        · have := (hI d g).2
          rw [← b4] at this
          exact this hm
        · by_cases g2 : d = i
          · subst g2
            rw [hgh] at b4
            subst b4
            rw [hw] at a4
            have hb' := df_nd_lo k a2
            have hb2 := cf_nb_le (c := c) (cf_n c)
            have h20 := k.1.1
            have : (nI (mc_nd c K0 x0)).toInt = (-1 : Int32).toInt := congrArg Int32.toInt a4.symm
            rw [nI_toInt (by omega), show (-1 : Int32).toInt = -1 from by decide] at this
            omega
          · have := b5 i (by omega)
            rw [hgh] at this
            exact this hw
      refine And.intro hin (nm_r (e' := upd a_waitNode h (nI (mc_nd c K0 x0))) (by rw [hcl]) (And.intro hin (nm_r (e' := upd a_waitTag h (nI t0)) (by rw [hcl]) (And.intro hin (nm_r (e' := upd a_waitInput h (nI j0)) (by rw [hcl]) (And.intro hin (nm_r (e' := upd a_waitValue h v) (by rw [hcl]) ?_)))))))
      exact HW h i hlt hw hno hi' hgh.symm (fun d' hd' => (hI d' hd').1)
    · refine br_f hw (And.intro hin ?_)
      by_cases hen : a_waitNode h = nI (mc_nd c K0 x0)
      · refine br_t hen (And.intro hin ?_)
        by_cases het : a_waitTag h = nI t0
        · refine br_t het (And.intro hin ?_)
          have hm := wt_at k hN1 hN w h0 tw0 ht hlt hen het
          obtain ⟨a1, a2, a3, a4, a5, a6⟩ := w3 K0 x0 h hm
          rcases a6 with ⟨_, b2, b3⟩ | ⟨j, b1, b2, b3, b4, b5⟩
          · exfalso
            rcases (by omega : j0 = 0 ∨ j0 = 1) with rfl | rfl
            · exact hA b2
            · exact hA b3
          · have ej : j = 1 - j0 := by
              by_cases g : j = j0
              · subst g; exact absurd b3 hA
              · omega
            subst ej
            have e1 : a_waitInput h = 1 - nI j0 := by
              rw [b2]
              rcases (by omega : j0 = 0 ∨ j0 = 1) with rfl | rfl
              · rfl
              · rfl
            refine br_t e1 (And.intro hin (nm_r (e' := mv c K0 (mc_sv c K0 x0 (1 - j0))) b5 (And.intro hin (nm_r (e' := upd a_waitInput h 2) rfl ?_))))
            have hM := HM h hm b3
            rcases (by omega : j0 = 0 ∨ j0 = 1) with rfl | rfl
            · exact br_t rfl (br_t rfl hM)
            · exact br_f (by decide) (br_f (by decide) hM)
        · refine br_f het (hgo ?_ hw)
          intro hm
          obtain ⟨a1, a2, a3, a4, ⟨t, b1, b2, b3⟩, a6⟩ := w3 K0 x0 h hm
          have : t = t0 := tg_u hT _ _ _ b2 ht
          rw [this] at b1
          exact het b1
      · refine br_f hen (hgo ?_ hw)
        intro hm
        exact hen (w3 K0 x0 h hm).2.2.2.1
end
end
section
section
variable {c : CF} {fo : Int32} {fl : Nat → Int32} {fg : Bool}
variable {f_lines f_opened f_nodes f_edges f_depth f_tags f_readyFrom f_readyTo f_ranOrder f_isRun f_ended f_stepCount f_now : Int32} {a_lineKind a_lineA a_lineB a_lineC a_lineD a_openLine a_start a_nodeKind a_nodeNumber a_firstEdge a_edgeTo a_edgeInput a_nextEdge a_current a_keptFirst a_keptSecond a_openIs a_hasOther a_tagLoop a_tagRound a_tagAround a_waitNode a_waitTag a_waitValue a_waitInput a_readyNode a_readyTag a_readyA a_readyB a_readyInput a_result a_resultTime a_stepsAt : Nat → Int32}
theorem xs_arrive (k : cf_ok c) {D : List (Nat × Nat)} {T : Nat × Nat} {pr ρ : List (Nat × Nat)} {N rf sc t n j : Nat} {nw : Int32} {sa : Nat → Int32} {post : SX → Prop}
    (hP : df_pl c (df_A c D T pr) (T :: D) ρ) (hD : (T :: D).length ≤ 405) (hN : N ≤ 420) (hrf : rf ≤ 405) (r : mc_real c T.1 T.2)
    (hE : (cf_loc c (mi c T.1) (mf c T.1) T.2, n, j) ∈ (cf_all c).map (cf_E c)) (hpr : (n, j) ∉ pr) (hnw : fg = true → nw = nI (mt c T.1 T.2))
    (H : ∀ u ρ', (∃ s, ρ' = ρ ++ s) → rn_I c fo fl fg D T ((n, j) :: pr) ρ' N rf sc nw sa u → df_pl c (df_A c D T ((n, j) :: pr)) (T :: D) ρ' →
      (match u with | (f_lines, f_opened, f_nodes, f_edges, f_depth, f_tags, f_readyFrom, f_readyTo, f_ranOrder, f_isRun, f_ended, f_stepCount, f_now, a_lineKind, a_lineA, a_lineB, a_lineC, a_lineD, a_openLine, a_start, a_nodeKind, a_nodeNumber, a_firstEdge, a_edgeTo, a_edgeInput, a_nextEdge, a_current, a_keptFirst, a_keptSecond, a_openIs, a_hasOther, a_tagLoop, a_tagRound, a_tagAround, a_waitNode, a_waitTag, a_waitValue, a_waitInput, a_readyNode, a_readyTag, a_readyA, a_readyB, a_readyInput, a_result, a_resultTime, a_stepsAt) => tg_is a_tagLoop a_tagRound a_tagAround N (mg c T.1) t) → post u)
    (u : SX) (h : rn_I c fo fl fg D T pr ρ N rf sc nw sa u) (ht : match u with | (f_lines, f_opened, f_nodes, f_edges, f_depth, f_tags, f_readyFrom, f_readyTo, f_ranOrder, f_isRun, f_ended, f_stepCount, f_now, a_lineKind, a_lineA, a_lineB, a_lineC, a_lineD, a_openLine, a_start, a_nodeKind, a_nodeNumber, a_firstEdge, a_edgeTo, a_edgeInput, a_nextEdge, a_current, a_keptFirst, a_keptSecond, a_openIs, a_hasOther, a_tagLoop, a_tagRound, a_tagAround, a_waitNode, a_waitTag, a_waitValue, a_waitInput, a_readyNode, a_readyTag, a_readyA, a_readyB, a_readyInput, a_result, a_resultTime, a_stepsAt) => tg_is a_tagLoop a_tagRound a_tagAround N (mg c T.1) t) : wpX_arrive post u (nI n) (nI t) (nI j) (mv c T.1 T.2) := by
  obtain ⟨f_lines, f_opened, f_nodes, f_edges, f_depth, f_tags, f_readyFrom, f_readyTo, f_ranOrder, f_isRun, f_ended, f_stepCount, f_now, a_lineKind, a_lineA, a_lineB, a_lineC, a_lineD, a_openLine, a_start, a_nodeKind, a_nodeNumber, a_firstEdge, a_edgeTo, a_edgeInput, a_nextEdge, a_current, a_keptFirst, a_keptSecond, a_openIs, a_hasOther, a_tagLoop, a_tagRound, a_tagAround, a_waitNode, a_waitTag, a_waitValue, a_waitInput, a_readyNode, a_readyTag, a_readyA, a_readyB, a_readyInput, a_result, a_resultTime, a_stepsAt⟩ := u
  obtain ⟨hg, ⟨hN0, hN1, hT⟩, ⟨wl, hw⟩, hr, hs, hsc, hno, hsa⟩ := h
  have hg := tgx_el hg
  obtain ⟨_, _, hnk, _⟩ := hg.2
  have hb2 := cf_nb_le (c := c) (cf_n c)
  have h20 := k.1.1
  rcases df_arr k r hE with ⟨K0, x0, h0, s0, e0, n0, g0, v0⟩ | ⟨K, x, e1, hx, e2, hK, eT⟩
  · have hAs := df_A_s k (D := D) (pr := pr) h0 s0 e0 n0
    have hTD : T ∉ D := fun z => (List.nodup_cons.mp (List.nodup_append.mp hP.1).1).1 z
    have hA : ¬ df_A c D T pr K0 x0 j := by
      rintro ⟨_, _, z | ⟨_, z⟩⟩
      · rw [e0] at z; exact hTD z
      · rw [n0] at z; exact hpr z
    have hlo := df_nd_lo k h0
    rw [n0] at hlo
    have hn : n < 320 := by omega
    have hni : vp_in (nI n) 320 := vp_in_nI hn (by decide)
    have hnc : (nI n).toNatClampNeg = n := nI_clamp (by omega)
    have hkn : a_nodeKind n = cf_nkd (me c K0) := by
      rw [(hnk n hlo.2).1, ← n0]
      exact (cf_node k (mc_pos k K0) s0).1
    have hi0 := mc_ni k h0
    rw [← g0] at ht
    refine And.intro hni ?_
    rw [hnc]
    have hs' : rs_I c fg D T ((n, j) :: pr) a_result a_resultTime := by
      intro x K hx hK hc
      apply hs x K hx hK
      rcases hc with z | ⟨z1, z2⟩
      · exact Or.inl z
      · rcases List.mem_cons.mp z2 with z3 | z3
        · have : 5 + x = n := congrArg Prod.fst z3
          omega
        · exact Or.inr ⟨z1, z3⟩
    by_cases tw : mc_tw c K0
    · have hj := mc_tw_l tw s0
      have hk34 : a_nodeKind n = 3 ∨ a_nodeKind n = 4 := by
        rw [hkn]
        rcases tw with e | e | e <;> rw [e]
        · exact Or.inl rfl
        · exact Or.inr rfl
        · exact Or.inr rfl
      refine br_f (by rcases hk34 with e | e <;> rw [e] <;> decide) (xs_n1 hn hk34 (br_f (by decide) ?_))
      have hh : (nI n * 31 + nI t * 7) &&& 8191 = nI ((hs_h n t + 0) % 8192) := by
        have l1 := tg_lt hN1 _ _ ht
        rw [show nI n * 31 = nI (n * 31) from pk_mul n 31, show nI t * 7 = nI (t * 7) from pk_mul t 7, nI_add, pk_andN (by omega) 13 (by decide), Nat.add_zero]
        rfl
      refine nm_r hh ⟨8193, ?_⟩
      rw [← n0]
      refine xs_mt k hN1 (by omega) hT hw h0 tw ht hj hA (wt_free k hw hP hD) ?_ ?_ 8192 0 rfl 8193 (by omega) (fun d hd => absurd hd (Nat.not_lt_zero _))
      · intro h hm ha1
        have hP' := df_pl_r k hP h0 s0 hA hAs (by
          intro j' sj'
          have hj' := mc_tw_l tw sj'
          rw [hAs]
          by_cases g : j' = j
          · exact Or.inr ⟨rfl, rfl, g⟩
          · have : j' = 1 - j := by omega
            rw [this]; exact Or.inl ha1)
        have hrho := df_rho k hP' hD
        rw [List.length_append, List.length_singleton] at hrho
        refine xs_mr (q := rf + ρ.length) hr.2.1 (by omega) ?_
        refine H _ (ρ ++ [(K0 + 1, x0)]) ⟨_, rfl⟩ ?_ hP' (by rw [← g0]; exact ht)
        refine And.intro (tgx_mk hg) (And.intro ⟨hN0, hN1, hT⟩ (And.intro ⟨wl, wt_m k hN1 (by omega) hw hAs hj hm ha1⟩ (And.intro (rr_a hr ?_) (And.intro hs' ⟨hsc, hno, hsa⟩))))
        refine ⟨K0, rfl, h0, rfl, ⟨t, rfl, ht⟩, fun _ => ?_, fun z => absurd tw z⟩
        rcases (by omega : j = 0 ∨ j = 1) with e | e
        · subst e
          exact ⟨by rw [if_pos rfl, v0], by rw [if_pos rfl]⟩
        · subst e
          exact ⟨by rw [if_neg (by decide)], by rw [if_neg (by decide), v0]⟩
      · intro h d a1 a2 a3 a4 a5 a6
        have hno1 : ¬ df_A c D T ((n, j) :: pr) K0 x0 (1 - j) := by
          rw [hAs]
          rintro (z | ⟨_, _, z⟩)
          · obtain ⟨q, hq⟩ := hw.2.2.2 _ _ _ z tw
            exact a3 q hq
          · omega
        refine H _ ρ ⟨[], (List.append_nil _).symm⟩ ?_ (df_pl_w hP h0 s0 hA hAs (mc_tw_s k tw h0 (j := 1 - j) (by omega)) hno1) (by rw [← g0]; exact ht)
        exact And.intro (tgx_mk hg) (And.intro ⟨hN0, hN1, hT⟩ (And.intro ⟨_, wt_w k hw hAs hj h0 tw a1 a2 a3 ht a4 a5 a6 v0.symm⟩ (And.intro hr (And.intro hs' ⟨hsc, hno, hsa⟩))))
    · obtain ⟨o1, o2⟩ := mc_one k tw hi0 s0
      have hk34 : a_nodeKind n ≠ 1 ∧ a_nodeKind n ≠ 3 ∧ a_nodeKind n ≠ 4 := by
        rw [hkn]
        rw [mc_tw] at tw
        rcases cf_cases k (mc_pos k K0) with ⟨e, _⟩ | ⟨e, _⟩ | ⟨e, _⟩ | ⟨e, _⟩ | ⟨e, _⟩ | ⟨e, _⟩ | ⟨e, _⟩ | ⟨e, _⟩ | ⟨e, _⟩ | ⟨e, hn', _⟩
        · rw [me, e]; decide
        · exact absurd (Or.inl e) tw
        · exact absurd (Or.inr (Or.inl e)) tw
        · exact ((cf_sl_e e).mp s0).elim
        · rw [me, e]; decide
        · exact absurd (Or.inr (Or.inr e)) tw
        · rw [me, e]; decide
        · rw [me, e]; decide
        · rw [me, e]; decide
        · omega
      have hP' := df_pl_r k hP h0 s0 hA hAs (by
        intro j' sj'
        rw [o1 j' sj', hAs]
        exact Or.inr ⟨rfl, rfl, rfl⟩)
      have hrho := df_rho k hP' hD
      rw [List.length_append, List.length_singleton] at hrho
      refine br_f hk34.1 (xs_n0 hn hk34.2.1 hk34.2.2 (br_t rfl ?_))
      refine xs_mr (q := rf + ρ.length) hr.2.1 (by omega) ?_
      refine H _ (ρ ++ [(K0 + 1, x0)]) ⟨_, rfl⟩ ?_ hP' (by rw [← g0]; exact ht)
      refine And.intro (tgx_mk hg) (And.intro ⟨hN0, hN1, hT⟩ (And.intro ⟨wl, wt_o hw hAs tw⟩ (And.intro (rr_a hr ?_) (And.intro hs' ⟨hsc, hno, hsa⟩))))
      refine ⟨K0, rfl, h0, by rw [n0], ⟨t, rfl, ht⟩, fun z => absurd z tw, fun _ z => ?_⟩
      obtain ⟨p1, p2⟩ := o2 z
      rw [p2] at v0
      exact ⟨v0.symm, by rw [p1]⟩
  · have hn10 : n < 10 := by omega
    have hlo : n < cf_nb c (cf_n c) := by have := cf_nb_ge (c := c) (cf_n c); omega
    have hni : vp_in (nI n) 320 := vp_in_nI (by omega) (by decide)
    have hnc : (nI n).toNatClampNeg = n := nI_clamp (by omega)
    obtain ⟨k1, k2⟩ := cf_kk_0 (c := c) hn10 (cf_n c)
    obtain ⟨m1, m2⟩ := hnk n hlo
    rw [k1, if_neg (by omega)] at m1
    rw [k2, if_neg (by omega), show n - 5 = x from by omega] at m2
    have hAe := df_A_e k (D := D) (pr := pr) (T := T) (j := j) hn10
    refine And.intro hni ?_
    rw [hnc, m2]
    have hxi : vp_in (nI x) 5 := vp_in_nI hx (by decide)
    have hxc : (nI x).toNatClampNeg = x := nI_clamp (by omega)
    refine br_t m1 (And.intro hni (And.intro hxi (nm_r (e' := upd a_result x (mv c T.1 T.2)) (by rw [hxc]) (And.intro hni (And.intro hxi (nm_r (e' := upd a_resultTime x f_now) (by rw [hxc]) ?_))))))
    refine H _ ρ ⟨[], (List.append_nil _).symm⟩ ?_ (df_pl_c hP (fun K x j => (hAe K x j).symm)) ht
    refine And.intro (tgx_mk hg) (And.intro ⟨hN0, hN1, hT⟩ (And.intro ⟨wl, wt_c hw (fun K x j => (hAe K x j).symm)⟩ (And.intro hr (And.intro ?_ ⟨hsc, hno, hsa⟩))))
    intro x' K' hx' hK' hc
    by_cases ex : x' = x
    · subst ex
      rw [pk_us, pk_us]
      have hmm : mv c K' x' = mv c K x' ∧ mt c K' x' = mt c K x' := by
        rcases Nat.le_total K K' with g | g
        · obtain ⟨_, _, _, z1, z2, _⟩ := mc_halt k hK (K' - K)
          rw [show K + (K' - K) = K' from by omega] at z1 z2
          rw [z1, z2]; exact ⟨rfl, rfl⟩
        · obtain ⟨_, _, _, z1, z2, _⟩ := mc_halt k hK' (K - K')
          rw [show K' + (K - K') = K from by omega] at z1 z2
          rw [z1, z2]; exact ⟨rfl, rfl⟩
      obtain ⟨_, _, q1, q2, _⟩ := mc_M1 k hx' K
      have t1 : T.1 = mp c K x' := congrArg Prod.fst eT
      have t2 : T.2 = x' := congrArg Prod.snd eT
      rw [hmm.1, hmm.2, t1, t2]
      refine ⟨q1, fun z => ?_⟩
      rw [hno, hnw z, t1, t2, q2]
    · rw [pk_un ex, pk_un ex]
      apply hs x' K' hx' hK'
      rcases hc with z | ⟨z1, z2⟩
      · exact Or.inl z
      · rcases List.mem_cons.mp z2 with z3 | z3
        · have : 5 + x' = n := congrArg Prod.fst z3
          omega
        · exact Or.inr ⟨z1, z3⟩
/-! a token is sent along all edges -/
theorem lk_l_s {et ei ne : Nat → Int32} : ∀ P L : List (Nat × Nat × Nat), lk_l et ei ne (P ++ L) → lk_l et ei ne L
  | [], _, h => h
  | _ :: P, L, h => lk_l_s P L h.2.2.2
def ux_sd (post : SX → Prop) (x2 x3 : Int32) (n : Nat) (x4 x5 : Int32) (u : SX) : Prop := match u with
  | (f_lines, f_opened, f_nodes, f_edges, f_depth, f_tags, f_readyFrom, f_readyTo, f_ranOrder, f_isRun, f_ended, f_stepCount, f_now, a_lineKind, a_lineA, a_lineB, a_lineC, a_lineD, a_openLine, a_start, a_nodeKind, a_nodeNumber, a_firstEdge, a_edgeTo, a_edgeInput, a_nextEdge, a_current, a_keptFirst, a_keptSecond, a_openIs, a_hasOther, a_tagLoop, a_tagRound, a_tagAround, a_waitNode, a_waitTag, a_waitValue, a_waitInput, a_readyNode, a_readyTag, a_readyA, a_readyB, a_readyInput, a_result, a_resultTime, a_stepsAt) => wX_send_11 post x2 x3 n x4 x5 f_lines f_opened f_nodes f_edges f_depth f_tags f_readyFrom f_readyTo f_ranOrder f_isRun f_ended f_stepCount f_now a_lineKind a_lineA a_lineB a_lineC a_lineD a_openLine a_start a_nodeKind a_nodeNumber a_firstEdge a_edgeTo a_edgeInput a_nextEdge a_current a_keptFirst a_keptSecond a_openIs a_hasOther a_tagLoop a_tagRound a_tagAround a_waitNode a_waitTag a_waitValue a_waitInput a_readyNode a_readyTag a_readyA a_readyB a_readyInput a_result a_resultTime a_stepsAt
theorem xs_sd (k : cf_ok c) {D ρ0 : List (Nat × Nat)} {T : Nat × Nat} {N rf sc t : Nat} {nw : Int32} {sa : Nat → Int32} {post : SX → Prop}
    (hD : (T :: D).length ≤ 405) (hN : N ≤ 420) (hrf : rf ≤ 405) (r : mc_real c T.1 T.2) (hnw : fg = true → nw = nI (mt c T.1 T.2))
    (H : ∀ u pr ρ, (∃ s, ρ = ρ0 ++ s) → (∀ n j, (cf_loc c (mi c T.1) (mf c T.1) T.2, n, j) ∈ (cf_all c).map (cf_E c) → (n, j) ∈ pr) → rn_I c fo fl fg D T pr ρ N rf sc nw sa u → df_pl c (df_A c D T pr) (T :: D) ρ → post u) :
    ∀ (L P : List (Nat × Nat × Nat)) (q : Nat) (pr ρ : List (Nat × Nat)), (∃ s, ρ = ρ0 ++ s) → (cf_all c).map (cf_E c) = P ++ L → q ≤ P.length → (∀ n j, (n, j) ∈ pr ↔ (cf_loc c (mi c T.1) (mf c T.1) T.2, n, j) ∈ P) →
      ∀ n, L.length < n → ∀ u, rn_I c fo fl fg D T pr ρ N rf sc nw sa u → (match u with | (f_lines, f_opened, f_nodes, f_edges, f_depth, f_tags, f_readyFrom, f_readyTo, f_ranOrder, f_isRun, f_ended, f_stepCount, f_now, a_lineKind, a_lineA, a_lineB, a_lineC, a_lineD, a_openLine, a_start, a_nodeKind, a_nodeNumber, a_firstEdge, a_edgeTo, a_edgeInput, a_nextEdge, a_current, a_keptFirst, a_keptSecond, a_openIs, a_hasOther, a_tagLoop, a_tagRound, a_tagAround, a_waitNode, a_waitTag, a_waitValue, a_waitInput, a_readyNode, a_readyTag, a_readyA, a_readyB, a_readyInput, a_result, a_resultTime, a_stepsAt) => tg_is a_tagLoop a_tagRound a_tagAround N (mg c T.1) t) → df_pl c (df_A c D T pr) (T :: D) ρ →
        ux_sd post (nI t) (mv c T.1 T.2) n (lk_p (cf_loc c (mi c T.1) (mf c T.1) T.2) L) (nI q) u := by
  have hlen : ((cf_all c).map (cf_E c)).length ≤ 305 := by rw [List.length_map]; exact (cf_all_n k).2
  have hnd : ((cf_all c).map (cf_E c)).Nodup := by
    apply df_map _ _ (cf_all_n k).1
    rintro ⟨i, f, x, j⟩ h1 ⟨i', f', x', j'⟩ h2 e
    obtain ⟨v1, s1⟩ := (cf_all_m k _ _ _ _).mp h1
    obtain ⟨v2, s2⟩ := (cf_all_m k _ _ _ _).mp h2
    exact cf_E_inj k v1 v2 s1 s2 e
  intro L
  induction L with
  | nil =>
    intro P q pr ρ hx hL hq hpr n hn u h ht hP
    obtain ⟨n, rfl⟩ : ∃ n', n = n' + 1 := ⟨n - 1, by simp only [List.length_nil] at hn; omega⟩
    rw [List.append_nil] at hL
    rw [hL] at hlen
    obtain ⟨f_lines, f_opened, f_nodes, f_edges, f_depth, f_tags, f_readyFrom, f_readyTo, f_ranOrder, f_isRun, f_ended, f_stepCount, f_now, a_lineKind, a_lineA, a_lineB, a_lineC, a_lineD, a_openLine, a_start, a_nodeKind, a_nodeNumber, a_firstEdge, a_edgeTo, a_edgeInput, a_nextEdge, a_current, a_keptFirst, a_keptSecond, a_openIs, a_hasOther, a_tagLoop, a_tagRound, a_tagAround, a_waitNode, a_waitTag, a_waitValue, a_waitInput, a_readyNode, a_readyTag, a_readyA, a_readyB, a_readyInput, a_result, a_resultTime, a_stepsAt⟩ := u
    refine br_f (nI_ge (b := 700) (by omega) (by decide)) (br_t rfl (H _ pr ρ hx ?_ h hP))
    intro n' j' hm
    rw [hL] at hm
    exact (hpr n' j').mpr hm
  | cons e L ih =>
    intro P q pr ρ hx hL hq hpr n hn u h ht hP
    rw [List.length_cons] at hn
    have hL2 : (cf_all c).map (cf_E c) = (P ++ [e]) ++ L := by rw [hL, List.append_assoc]; rfl
    have hle2 := hlen
    rw [hL, List.length_append, List.length_cons] at hle2
    by_cases he : e.1 = cf_loc c (mi c T.1) (mf c T.1) T.2
    · obtain ⟨n, rfl⟩ : ∃ n', n = n' + 1 := ⟨n - 1, by omega⟩
      obtain ⟨f_lines, f_opened, f_nodes, f_edges, f_depth, f_tags, f_readyFrom, f_readyTo, f_ranOrder, f_isRun, f_ended, f_stepCount, f_now, a_lineKind, a_lineA, a_lineB, a_lineC, a_lineD, a_openLine, a_start, a_nodeKind, a_nodeNumber, a_firstEdge, a_edgeTo, a_edgeInput, a_nextEdge, a_current, a_keptFirst, a_keptSecond, a_openIs, a_hasOther, a_tagLoop, a_tagRound, a_tagAround, a_waitNode, a_waitTag, a_waitValue, a_waitInput, a_readyNode, a_readyTag, a_readyA, a_readyB, a_readyInput, a_result, a_resultTime, a_stepsAt⟩ := u
      have hg := (tgx_el h.1).2
      have hlay := hg.2.2.2.1
      rw [hL] at hlay
      obtain ⟨y1, y2, y3, y4⟩ := lk_l_s P (e :: L) hlay
      rw [lk_p, if_pos he]
      have hLi : vp_in (nI L.length) 700 := vp_in_nI (by omega) (by decide)
      have hLc : (nI L.length).toNatClampNeg = L.length := nI_clamp (by omega)
      have hm1 : ¬ nI L.length = -1 := by
        intro z
        have : (nI L.length).toInt = (-1 : Int32).toInt := congrArg Int32.toInt z
        rw [nI_toInt (by omega), show (-1 : Int32).toInt = -1 from by decide] at this
        omega
      refine br_f (nI_ge (b := 700) (by omega) (by decide)) (br_f hm1 (And.intro hLi (And.intro hLi ?_)))
      rw [hLc, y1, y2]
      have hmem : (cf_loc c (mi c T.1) (mf c T.1) T.2, e.2.1, e.2.2) ∈ (cf_all c).map (cf_E c) := by
        rw [hL, ← he]
        exact List.mem_append_right _ (List.mem_cons_self ..)
      have hnot : (e.2.1, e.2.2) ∉ pr := by
        rw [hpr, ← he]
        intro z
        rw [hL] at hnd
        exact (List.nodup_append.mp hnd).2.2 _ z _ (List.mem_cons_self ..) rfl
      refine xs_arrive k hP hD hN hrf r hmem hnot hnw ?_ (f_lines, f_opened, f_nodes, f_edges, f_depth, f_tags, f_readyFrom, f_readyTo, f_ranOrder, f_isRun, f_ended, f_stepCount, f_now, a_lineKind, a_lineA, a_lineB, a_lineC, a_lineD, a_openLine, a_start, a_nodeKind, a_nodeNumber, a_firstEdge, a_edgeTo, a_edgeInput, a_nextEdge, a_current, a_keptFirst, a_keptSecond, a_openIs, a_hasOther, a_tagLoop, a_tagRound, a_tagAround, a_waitNode, a_waitTag, a_waitValue, a_waitInput, a_readyNode, a_readyTag, a_readyA, a_readyB, a_readyInput, a_result, a_resultTime, a_stepsAt) h ht
      intro u ρ' hx' h' hP' ht'
      obtain ⟨f_lines, f_opened, f_nodes, f_edges, f_depth, f_tags, f_readyFrom, f_readyTo, f_ranOrder, f_isRun, f_ended, f_stepCount, f_now, a_lineKind, a_lineA, a_lineB, a_lineC, a_lineD, a_openLine, a_start, a_nodeKind, a_nodeNumber, a_firstEdge, a_edgeTo, a_edgeInput, a_nextEdge, a_current, a_keptFirst, a_keptSecond, a_openIs, a_hasOther, a_tagLoop, a_tagRound, a_tagAround, a_waitNode, a_waitTag, a_waitValue, a_waitInput, a_readyNode, a_readyTag, a_readyA, a_readyB, a_readyInput, a_result, a_resultTime, a_stepsAt⟩ := u
      have hg' := (tgx_el h'.1).2
      have hlay' := hg'.2.2.2.1
      rw [hL] at hlay'
      obtain ⟨_, _, y3', _⟩ := lk_l_s P (e :: L) hlay'
      refine And.intro hLi (nm_r (e' := lk_p (cf_loc c (mi c T.1) (mf c T.1) T.2) L) (by rw [y3', he]) (nm_r (e' := nI (q + 1)) (nI_1 q) ?_))
      refine ih (P ++ [e]) (q + 1) ((e.2.1, e.2.2) :: pr) ρ' (by obtain ⟨s, rfl⟩ := hx; obtain ⟨s', rfl⟩ := hx'; exact ⟨s ++ s', List.append_assoc _ _ _⟩) hL2 (by rw [List.length_append]; simp only [List.length_singleton]; omega) ?_ n (by omega) (f_lines, f_opened, f_nodes, f_edges, f_depth, f_tags, f_readyFrom, f_readyTo, f_ranOrder, f_isRun, f_ended, f_stepCount, f_now, a_lineKind, a_lineA, a_lineB, a_lineC, a_lineD, a_openLine, a_start, a_nodeKind, a_nodeNumber, a_firstEdge, a_edgeTo, a_edgeInput, a_nextEdge, a_current, a_keptFirst, a_keptSecond, a_openIs, a_hasOther, a_tagLoop, a_tagRound, a_tagAround, a_waitNode, a_waitTag, a_waitValue, a_waitInput, a_readyNode, a_readyTag, a_readyA, a_readyB, a_readyInput, a_result, a_resultTime, a_stepsAt) h' ht' hP'
      intro n' j'
      rw [List.mem_cons, List.mem_append, List.mem_singleton, hpr]
      constructor
      · rintro (z | z)
        · refine Or.inr ?_
          have z1 : n' = e.2.1 := congrArg Prod.fst z
          have z2 : j' = e.2.2 := congrArg Prod.snd z
          rw [z1, z2, ← he]
        · exact Or.inl z
      · rintro (z | z)
        · exact Or.inr z
        · refine Or.inl ?_
          rw [← z]
    · rw [lk_p, if_neg he]
      refine ih (P ++ [e]) q pr ρ hx hL2 (by rw [List.length_append]; omega) ?_ n (by omega) u h ht hP
      intro n' j'
      rw [List.mem_append, List.mem_singleton, hpr]
      constructor
      · exact Or.inl
      · rintro (z | z)
        · exact z
        · exact absurd (congrArg Prod.fst z).symm he
theorem xs_send (k : cf_ok c) {D : List (Nat × Nat)} {T : Nat × Nat} {ρ : List (Nat × Nat)} {N rf sc t o : Nat} {nw : Int32} {sa : Nat → Int32} {post : SX → Prop} {v : Int32}
    (hP : df_pl c (df_A c D T []) (T :: D) ρ) (hD : (T :: D).length ≤ 405) (hN : N ≤ 420) (hrf : rf ≤ 405) (r : mc_real c T.1 T.2) (hnw : fg = true → nw = nI (mt c T.1 T.2))
    (ho : o = cf_loc c (mi c T.1) (mf c T.1) T.2) (hv : v = mv c T.1 T.2)
    (H : ∀ u ρ', (∃ s, ρ' = ρ ++ s) → rn_I c fo fl fg (T :: D) T [] ρ' N rf sc nw sa u → df_pl c (df_A c (T :: D) T []) (T :: D) ρ' → post u)
    (u : SX) (h : rn_I c fo fl fg D T [] ρ N rf sc nw sa u) (ht : match u with | (f_lines, f_opened, f_nodes, f_edges, f_depth, f_tags, f_readyFrom, f_readyTo, f_ranOrder, f_isRun, f_ended, f_stepCount, f_now, a_lineKind, a_lineA, a_lineB, a_lineC, a_lineD, a_openLine, a_start, a_nodeKind, a_nodeNumber, a_firstEdge, a_edgeTo, a_edgeInput, a_nextEdge, a_current, a_keptFirst, a_keptSecond, a_openIs, a_hasOther, a_tagLoop, a_tagRound, a_tagAround, a_waitNode, a_waitTag, a_waitValue, a_waitInput, a_readyNode, a_readyTag, a_readyA, a_readyB, a_readyInput, a_result, a_resultTime, a_stepsAt) => tg_is a_tagLoop a_tagRound a_tagAround N (mg c T.1) t) : wpX_send post u (nI o) (nI t) v := by
  obtain ⟨f_lines, f_opened, f_nodes, f_edges, f_depth, f_tags, f_readyFrom, f_readyTo, f_ranOrder, f_isRun, f_ended, f_stepCount, f_now, a_lineKind, a_lineA, a_lineB, a_lineC, a_lineD, a_openLine, a_start, a_nodeKind, a_nodeNumber, a_firstEdge, a_edgeTo, a_edgeInput, a_nextEdge, a_current, a_keptFirst, a_keptSecond, a_openIs, a_hasOther, a_tagLoop, a_tagRound, a_tagAround, a_waitNode, a_waitTag, a_waitValue, a_waitInput, a_readyNode, a_readyTag, a_readyA, a_readyB, a_readyInput, a_result, a_resultTime, a_stepsAt⟩ := u
  subst hv
  have hg := (tgx_el h.1).2
  have hol : o < 2 * cf_nb c (cf_n c) := by
    rw [ho]
    have hp := mc_pos k T.1
    rcases hp.2 with z | ⟨z, z1, z2⟩
    · rw [z, cf_loc_0]
      have h1 := cf_La_lt k r.1 (mi c T.1) hp.1
      have h2 := cf_nb_mono (c := c) (i := mi c T.1) (cf_n c - mi c T.1)
      rw [show mi c T.1 + (cf_n c - mi c T.1) = cf_n c from by have := hp.1; omega] at h2
      omega
    · rw [z, cf_loc_1]
      rcases z2 with z3 | z3
      · rw [cf_Lb_4 z3]
        have := cf_nb_lt (c := c) (i := mi c T.1) (i' := cf_n c) (s := T.2) z1 (by rw [cf_wd10 z3]; have := r.1; omega)
        omega
      · rw [cf_Lb, if_neg (by omega)]
        obtain ⟨a1, a2, a3, a4, a5⟩ := cf_cl_c k z1 z3
        have h1 := cf_ks_lt k r.1 (Nat.le_of_lt z1) (j := cf_op c (mi c T.1)) (by rw [a5]; exact List.mem_cons_self ..)
        have h2 := cf_nb_mono (c := c) (i := mi c T.1) (cf_n c - mi c T.1)
        rw [show mi c T.1 + (cf_n c - mi c T.1) = cf_n c from by have := hp.1; omega] at h2
        omega
  have hb2 := cf_nb_le (c := c) (cf_n c)
  have h20 := k.1.1
  refine And.intro (vp_in_nI (by omega) (by decide)) (nm_r (e' := lk_p o ((cf_all c).map (cf_E c))) (by rw [nI_clamp (by omega)]; exact hg.2.2.2.2.1 o hol) ⟨306, ?_⟩)
  rw [ho]
  have hlen : ((cf_all c).map (cf_E c)).length ≤ 305 := by rw [List.length_map]; exact (cf_all_n k).2
  refine xs_sd (c := c) (fo := fo) (fl := fl) (fg := fg) (ρ0 := ρ) k hD hN hrf r hnw ?_ ((cf_all c).map (cf_E c)) [] 0 [] ρ ⟨[], (List.append_nil _).symm⟩ (List.nil_append _).symm (Nat.le_refl _) (fun n j => by simp) 306 (by omega) (f_lines, f_opened, f_nodes, f_edges, f_depth, f_tags, f_readyFrom, f_readyTo, f_ranOrder, f_isRun, f_ended, f_stepCount, f_now, a_lineKind, a_lineA, a_lineB, a_lineC, a_lineD, a_openLine, a_start, a_nodeKind, a_nodeNumber, a_firstEdge, a_edgeTo, a_edgeInput, a_nextEdge, a_current, a_keptFirst, a_keptSecond, a_openIs, a_hasOther, a_tagLoop, a_tagRound, a_tagAround, a_waitNode, a_waitTag, a_waitValue, a_waitInput, a_readyNode, a_readyTag, a_readyA, a_readyB, a_readyInput, a_result, a_resultTime, a_stepsAt) h ht hP
  intro u pr ρ' hxx hpr h' hP'
  have hAf := df_A_f k (D := D) (pr := pr) r hpr T
  refine H u ρ' hxx ?_ (df_pl_c hP' hAf)
  obtain ⟨f_lines, f_opened, f_nodes, f_edges, f_depth, f_tags, f_readyFrom, f_readyTo, f_ranOrder, f_isRun, f_ended, f_stepCount, f_now, a_lineKind, a_lineA, a_lineB, a_lineC, a_lineD, a_openLine, a_start, a_nodeKind, a_nodeNumber, a_firstEdge, a_edgeTo, a_edgeInput, a_nextEdge, a_current, a_keptFirst, a_keptSecond, a_openIs, a_hasOther, a_tagLoop, a_tagRound, a_tagAround, a_waitNode, a_waitTag, a_waitValue, a_waitInput, a_readyNode, a_readyTag, a_readyA, a_readyB, a_readyInput, a_result, a_resultTime, a_stepsAt⟩ := u
  obtain ⟨hg, hTT, ⟨wl, hw⟩, hr, hs, hq⟩ := h'
  refine And.intro hg (And.intro hTT (And.intro ⟨wl, wt_c hw hAf⟩ (And.intro hr (And.intro ?_ hq))))
  intro x K hx hK hc
  apply hs x K hx hK
  rcases hc with z | ⟨_, z⟩
  · rcases List.mem_cons.mp z with z | z
    · refine Or.inr ⟨z, hpr _ _ ?_⟩
      have e9 : cf_ek c (mi c K) (mf c K) = 9 := cf_ek_9 hK
      refine List.mem_map.mpr ⟨(mi c K, mf c K, x, 0), (cf_all_m k _ _ _ _).mpr ⟨mc_pos k K, (cf_sl_e e9).mpr ⟨hx, rfl⟩⟩, ?_⟩
      have e5 : cf_sv c (mi c K) (mf c K) x 0 = x := by simp only [cf_sv, e9]
      have e6 : cf_nd c (mi c K) (mf c K) x = 5 + x := cf_nd_9 hK
      have t1 : T.1 = mp c K x := (congrArg Prod.fst z).symm
      have t2 : T.2 = x := (congrArg Prod.snd z).symm
      rw [cf_E, e5, e6, t1, t2, (mc_M1 k hx K).2.2.2.2.2]
    · exact Or.inl z
  · cases z
end
end
section
theorem tg_T_up {tl tr ta : Nat → Int32} {N i r s : Nat} (hT : tg_T tl tr ta N) (hi : i < 20) (hr : r < N) (hs : s < N)
    (hno : ∀ t, 0 < t → t < N → ¬ (tl t = nI i ∧ tr t = nI r ∧ ta t = nI s)) : tg_T (upd tl N (nI i)) (upd tr N (nI r)) (upd ta N (nI s)) (N + 1) := by
  refine ⟨fun t h0 h1 => ?_, fun t t' h0 h1 h0' h1' e1 e2 e3 => ?_⟩
  · by_cases g : t = N
    · subst g
      rw [pk_us, pk_us, pk_us]
      exact ⟨i, r, s, hi, hr, hs, rfl, rfl, rfl⟩
    · rw [pk_un g, pk_un g, pk_un g]
      exact hT.1 t h0 (by omega)
  · by_cases g : t = N
    · by_cases g' : t' = N
      · omega
      · exfalso
        subst g
        rw [pk_us, pk_un g'] at e1 e2 e3
        exact hno t' h0' (by omega) ⟨e1.symm, e2.symm, e3.symm⟩
    · by_cases g' : t' = N
      · exfalso
        subst g'
        rw [pk_us, pk_un g] at e1 e2 e3
        exact hno t h0 (by omega) ⟨e1, e2, e3⟩
      · rw [pk_un g, pk_un g'] at e1 e2 e3
        exact hT.2 t t' h0 (by omega) h0' (by omega) e1 e2 e3
theorem tg_new {tl tr ta : Nat → Int32} {N i r s : Nat} {g : List (Nat × Nat)} (hN1 : 1 ≤ N) (hi : i < 20) (hr : r < N) (hs : tg_is tl tr ta N g s) : tg_is (upd tl N (nI i)) (upd tr N (nI r)) (upd ta N (nI s)) (N + 1) ((i, r) :: g) N :=
  ⟨by omega, by omega, hi, hr, pk_us, pk_us, s, tg_lt hN1 _ _ hs, pk_us, tg_up _ _ hs⟩
theorem tg_old {tl tr ta : Nat → Int32} {N i r s t : Nat} {g : List (Nat × Nat)} (hN1 : 1 ≤ N) (hN : N ≤ 1000) (hT : tg_T tl tr ta N) (hi : i < 20) (hr : r < N) (hs : tg_is tl tr ta N g s) (h0 : 0 < t) (h1 : t < N) (e1 : tl t = nI i) (e2 : tr t = nI r) (e3 : ta t = nI s) : tg_is tl tr ta N ((i, r) :: g) t := by
  obtain ⟨i', r', s', a1, a2, a3, a4, a5, a6⟩ := hT.1 t h0 h1
  have hs1 := tg_lt hN1 _ _ hs
  have q2 : r = r' := (nI_eq (by omega) (by omega)).mp (e2.symm.trans a5)
  have q3 : s = s' := (nI_eq (by omega) (by omega)).mp (e3.symm.trans a6)
  subst q2 q3
  exact ⟨h0, h1, hi, a2, e1, e2, s, a3, e3, hs⟩
section
variable {c : CF} {fo : Int32} {fl : Nat → Int32} {fg : Bool}
variable {f_lines f_opened f_nodes f_edges f_depth f_tags f_readyFrom f_readyTo f_ranOrder f_isRun f_ended f_stepCount f_now : Int32} {a_lineKind a_lineA a_lineB a_lineC a_lineD a_openLine a_start a_nodeKind a_nodeNumber a_firstEdge a_edgeTo a_edgeInput a_nextEdge a_current a_keptFirst a_keptSecond a_openIs a_hasOther a_tagLoop a_tagRound a_tagAround a_waitNode a_waitTag a_waitValue a_waitInput a_readyNode a_readyTag a_readyA a_readyB a_readyInput a_result a_resultTime a_stepsAt : Nat → Int32}
theorem xs_tagOf {post : Int32 → SX → Prop} {N i r s : Nat} (hN0 : f_tags = nI N) (hN1 : 1 ≤ N) (hN : N < 420)
    (H1 : ∀ t, 0 < t → t < N → a_tagLoop t = nI i → a_tagRound t = nI r → a_tagAround t = nI s → post (nI t) (f_lines, f_opened, f_nodes, f_edges, f_depth, f_tags, f_readyFrom, f_readyTo, f_ranOrder, f_isRun, f_ended, f_stepCount, f_now, a_lineKind, a_lineA, a_lineB, a_lineC, a_lineD, a_openLine, a_start, a_nodeKind, a_nodeNumber, a_firstEdge, a_edgeTo, a_edgeInput, a_nextEdge, a_current, a_keptFirst, a_keptSecond, a_openIs, a_hasOther, a_tagLoop, a_tagRound, a_tagAround, a_waitNode, a_waitTag, a_waitValue, a_waitInput, a_readyNode, a_readyTag, a_readyA, a_readyB, a_readyInput, a_result, a_resultTime, a_stepsAt))
    (H2 : (∀ t, 0 < t → t < N → ¬ (a_tagLoop t = nI i ∧ a_tagRound t = nI r ∧ a_tagAround t = nI s)) → post (nI N) (f_lines, f_opened, f_nodes, f_edges, f_depth, nI (N + 1), f_readyFrom, f_readyTo, f_ranOrder, f_isRun, f_ended, f_stepCount, f_now, a_lineKind, a_lineA, a_lineB, a_lineC, a_lineD, a_openLine, a_start, a_nodeKind, a_nodeNumber, a_firstEdge, a_edgeTo, a_edgeInput, a_nextEdge, a_current, a_keptFirst, a_keptSecond, a_openIs, a_hasOther, upd a_tagLoop N (nI i), upd a_tagRound N (nI r), upd a_tagAround N (nI s), a_waitNode, a_waitTag, a_waitValue, a_waitInput, a_readyNode, a_readyTag, a_readyA, a_readyB, a_readyInput, a_result, a_resultTime, a_stepsAt)) : wpX_tagOf post (f_lines, f_opened, f_nodes, f_edges, f_depth, f_tags, f_readyFrom, f_readyTo, f_ranOrder, f_isRun, f_ended, f_stepCount, f_now, a_lineKind, a_lineA, a_lineB, a_lineC, a_lineD, a_openLine, a_start, a_nodeKind, a_nodeNumber, a_firstEdge, a_edgeTo, a_edgeInput, a_nextEdge, a_current, a_keptFirst, a_keptSecond, a_openIs, a_hasOther, a_tagLoop, a_tagRound, a_tagAround, a_waitNode, a_waitTag, a_waitValue, a_waitInput, a_readyNode, a_readyTag, a_readyA, a_readyB, a_readyInput, a_result, a_resultTime, a_stepsAt) (nI i) (nI r) (nI s) := by
  have hl : ∀ m, m < N → ∀ n, m < n → (∀ t, m < t → t < N → ¬ (a_tagLoop t = nI i ∧ a_tagRound t = nI r ∧ a_tagAround t = nI s)) → wX_tagOf_8 post (nI i) (nI r) (nI s) f_lines f_opened f_nodes f_edges f_depth f_tags f_readyFrom f_readyTo f_ranOrder f_isRun f_ended f_stepCount f_now a_lineKind a_lineA a_lineB a_lineC a_lineD a_openLine a_start a_nodeKind a_nodeNumber a_firstEdge a_edgeTo a_edgeInput a_nextEdge a_current a_keptFirst a_keptSecond a_openIs a_hasOther a_tagLoop a_tagRound a_tagAround a_waitNode a_waitTag a_waitValue a_waitInput a_readyNode a_readyTag a_readyA a_readyB a_readyInput a_result a_resultTime a_stepsAt n (nI m) := by
    intro m
    induction m with
    | zero =>
      intro hm n hn hno
      obtain ⟨n, rfl⟩ : ∃ n', n = n' + 1 := ⟨n - 1, by omega⟩
      subst hN0
      have hin : vp_in (nI N) 420 := vp_in_nI hN (by decide)
      have hc : (nI N).toNatClampNeg = N := nI_clamp (by omega)
      refine br_t (by decide) (And.intro hin (nm_r (e' := upd a_tagLoop N (nI i)) (by rw [hc]) (And.intro hin (nm_r (e' := upd a_tagRound N (nI r)) (by rw [hc]) (And.intro hin (nm_r (e' := upd a_tagAround N (nI s)) (by rw [hc]) (nm_r (e' := nI (N + 1)) (nI_1 N) ?_)))))))
      rw [nI_pred]
      exact H2 hno
    | succ m ih =>
      intro hm n hn hno
      obtain ⟨n, rfl⟩ : ∃ n', n = n' + 1 := ⟨n - 1, by omega⟩
      have hin : vp_in (nI (m + 1)) 420 := vp_in_nI (by omega) (by decide)
      have hc : (nI (m + 1)).toNatClampNeg = m + 1 := nI_clamp (by omega)
      refine br_f (nI_nle (by omega) (by omega)) (And.intro hin ?_)
      rw [hc]
      have hgo : ¬ (a_tagLoop (m + 1) = nI i ∧ a_tagRound (m + 1) = nI r ∧ a_tagAround (m + 1) = nI s) → wX_tagOf_8 post (nI i) (nI r) (nI s) f_lines f_opened f_nodes f_edges f_depth f_tags f_readyFrom f_readyTo f_ranOrder f_isRun f_ended f_stepCount f_now a_lineKind a_lineA a_lineB a_lineC a_lineD a_openLine a_start a_nodeKind a_nodeNumber a_firstEdge a_edgeTo a_edgeInput a_nextEdge a_current a_keptFirst a_keptSecond a_openIs a_hasOther a_tagLoop a_tagRound a_tagAround a_waitNode a_waitTag a_waitValue a_waitInput a_readyNode a_readyTag a_readyA a_readyB a_readyInput a_result a_resultTime a_stepsAt n (nI m) := by
        intro hne
        refine ih (by omega) n (by omega) fun t h0 h1 => ?_
        by_cases g : t = m + 1
        · subst g; exact hne
        · exact hno t (by omega) h1
      by_cases e1 : a_tagLoop (m + 1) = nI i
      · refine br_t e1 (And.intro hin ?_)
        by_cases e2 : a_tagRound (m + 1) = nI r
        · refine br_t e2 (And.intro hin ?_)
          by_cases e3 : a_tagAround (m + 1) = nI s
          · exact br_t e3 (H1 (m + 1) (by omega) hm e1 e2 e3)
          · exact br_f e3 (nm_r (pk_m1 m) (hgo (fun z => e3 z.2.2)))
        · exact br_f e2 (nm_r (pk_m1 m) (hgo (fun z => e2 z.2.1)))
      · exact br_f e1 (nm_r (pk_m1 m) (hgo (fun z => e1 z.1)))
  have e0 : f_tags - 1 = nI (N - 1) := by
    rw [hN0]
    obtain ⟨m, rfl⟩ : ∃ m, N = m + 1 := ⟨N - 1, by omega⟩
    rw [nI_pred, Nat.add_sub_cancel]
  refine nm_r e0 ⟨N, ?_⟩
  exact hl (N - 1) (by omega) N (by omega) fun t h0 h1 => by omega
theorem rn_tag {D : List (Nat × Nat)} {T : Nat × Nat} {pr ρ : List (Nat × Nat)} {N rf sc i r s : Nat} {nw : Int32} {sa : Nat → Int32} (h : rn_I c fo fl fg D T pr ρ N rf sc nw sa (f_lines, f_opened, f_nodes, f_edges, f_depth, f_tags, f_readyFrom, f_readyTo, f_ranOrder, f_isRun, f_ended, f_stepCount, f_now, a_lineKind, a_lineA, a_lineB, a_lineC, a_lineD, a_openLine, a_start, a_nodeKind, a_nodeNumber, a_firstEdge, a_edgeTo, a_edgeInput, a_nextEdge, a_current, a_keptFirst, a_keptSecond, a_openIs, a_hasOther, a_tagLoop, a_tagRound, a_tagAround, a_waitNode, a_waitTag, a_waitValue, a_waitInput, a_readyNode, a_readyTag, a_readyA, a_readyB, a_readyInput, a_result, a_resultTime, a_stepsAt)) (hi : i < 20) (hr : r < N) (hs : s < N)
    (hno : ∀ t, 0 < t → t < N → ¬ (a_tagLoop t = nI i ∧ a_tagRound t = nI r ∧ a_tagAround t = nI s)) :
    rn_I c fo fl fg D T pr ρ (N + 1) rf sc nw sa (f_lines, f_opened, f_nodes, f_edges, f_depth, nI (N + 1), f_readyFrom, f_readyTo, f_ranOrder, f_isRun, f_ended, f_stepCount, f_now, a_lineKind, a_lineA, a_lineB, a_lineC, a_lineD, a_openLine, a_start, a_nodeKind, a_nodeNumber, a_firstEdge, a_edgeTo, a_edgeInput, a_nextEdge, a_current, a_keptFirst, a_keptSecond, a_openIs, a_hasOther, upd a_tagLoop N (nI i), upd a_tagRound N (nI r), upd a_tagAround N (nI s), a_waitNode, a_waitTag, a_waitValue, a_waitInput, a_readyNode, a_readyTag, a_readyA, a_readyB, a_readyInput, a_result, a_resultTime, a_stepsAt) := by
  obtain ⟨hg, ⟨hN0, hN1, hT⟩, ⟨wl, hw⟩, hrr, hq⟩ := h
  exact And.intro (tgx_mk (tgx_el hg)) (And.intro ⟨rfl, by omega, tg_T_up hT hi hr hs hno⟩ (And.intro ⟨wl, wt_up hw⟩ (And.intro (rr_up hrr) hq)))
/-- the tag after a step -/
theorem xs_tagAfter (k : cf_ok c) {D : List (Nat × Nat)} {T : Nat × Nat} {ρ : List (Nat × Nat)} {N rf sc t K x : Nat} {nw : Int32} {sa : Nat → Int32} {i : Int32} {post : Int32 → SX → Prop} (hN : N < 420)
    (hr : mr c K x = true) (hin : ¬ mc_tw c K → me c K ≠ 0 → i = nI (cf_in c (mi c K) (mf c K)))
    (H : ∀ u t' N', N' ≤ N + 1 → rn_I c fo fl fg D T [] ρ N' rf sc nw sa u → (match u with | (f_lines, f_opened, f_nodes, f_edges, f_depth, f_tags, f_readyFrom, f_readyTo, f_ranOrder, f_isRun, f_ended, f_stepCount, f_now, a_lineKind, a_lineA, a_lineB, a_lineC, a_lineD, a_openLine, a_start, a_nodeKind, a_nodeNumber, a_firstEdge, a_edgeTo, a_edgeInput, a_nextEdge, a_current, a_keptFirst, a_keptSecond, a_openIs, a_hasOther, a_tagLoop, a_tagRound, a_tagAround, a_waitNode, a_waitTag, a_waitValue, a_waitInput, a_readyNode, a_readyTag, a_readyA, a_readyB, a_readyInput, a_result, a_resultTime, a_stepsAt) => tg_is a_tagLoop a_tagRound a_tagAround N' (mg c (K + 1)) t') → post (nI t') u)
    (u : SX) (h : rn_I c fo fl fg D T [] ρ N rf sc nw sa u) (ht : match u with | (f_lines, f_opened, f_nodes, f_edges, f_depth, f_tags, f_readyFrom, f_readyTo, f_ranOrder, f_isRun, f_ended, f_stepCount, f_now, a_lineKind, a_lineA, a_lineB, a_lineC, a_lineD, a_openLine, a_start, a_nodeKind, a_nodeNumber, a_firstEdge, a_edgeTo, a_edgeInput, a_nextEdge, a_current, a_keptFirst, a_keptSecond, a_openIs, a_hasOther, a_tagLoop, a_tagRound, a_tagAround, a_waitNode, a_waitTag, a_waitValue, a_waitInput, a_readyNode, a_readyTag, a_readyA, a_readyB, a_readyInput, a_result, a_resultTime, a_stepsAt) => tg_is a_tagLoop a_tagRound a_tagAround N (mg c K) t) : wpX_tagAfter post u (nI (mc_nd c K x)) (nI t) i := by
  obtain ⟨f_lines, f_opened, f_nodes, f_edges, f_depth, f_tags, f_readyFrom, f_readyTo, f_ranOrder, f_isRun, f_ended, f_stepCount, f_now, a_lineKind, a_lineA, a_lineB, a_lineC, a_lineD, a_openLine, a_start, a_nodeKind, a_nodeNumber, a_firstEdge, a_edgeTo, a_edgeInput, a_nextEdge, a_current, a_keptFirst, a_keptSecond, a_openIs, a_hasOther, a_tagLoop, a_tagRound, a_tagAround, a_waitNode, a_waitTag, a_waitValue, a_waitInput, a_readyNode, a_readyTag, a_readyA, a_readyB, a_readyInput, a_result, a_resultTime, a_stepsAt⟩ := u
  have h0 := h
  obtain ⟨hg, ⟨hN0, hN1, hT⟩, _⟩ := h0
  have hg := (tgx_el hg).2
  obtain ⟨_, _, hnk, _⟩ := hg
  have hlo := df_nd_lo k hr
  have hb2 := cf_nb_le (c := c) (cf_n c)
  have h20 := k.1.1
  have hni : vp_in (nI (mc_nd c K x)) 320 := vp_in_nI (by omega) (by decide)
  have hnc : (nI (mc_nd c K x)).toNatClampNeg = mc_nd c K x := nI_clamp (by omega)
  obtain ⟨j, hj, _⟩ := mc_sl_x k hr
  obtain ⟨q1, q2, q3, q4, q5⟩ := cf_node k (mc_pos k K) hj
  obtain ⟨m1, m2⟩ := hnk _ hlo.2
  have m1 : a_nodeKind (mc_nd c K x) = cf_nkd (me c K) := m1.trans q1
  have hi0 := mc_ni k hr
  have htl := tg_lt hN1 _ _ ht
  have hti : vp_in (nI t) 420 := vp_in_nI (by omega) (by decide)
  have htc : (nI t).toNatClampNeg = t := nI_clamp (by omega)
  refine And.intro hni ?_
  rw [hnc]
  have hsame : ∀ e, me c K = e → cf_nkd e ≠ 6 → cf_nkd e ≠ 7 → mg c (K + 1) = mg c K → ((a_nodeKind (mc_nd c K x) = 6 → (vp_in (nI (mc_nd c K x)) 320 ∧ ∀ x4_7, x4_7 = a_nodeNumber (mc_nd c K x) → ((i = 0 → wpX_tagOf (fun r u => match u with | (f_lines, f_opened, f_nodes, f_edges, f_depth, f_tags, f_readyFrom, f_readyTo, f_ranOrder, f_isRun, f_ended, f_stepCount, f_now, a_lineKind, a_lineA, a_lineB, a_lineC, a_lineD, a_openLine, a_start, a_nodeKind, a_nodeNumber, a_firstEdge, a_edgeTo, a_edgeInput, a_nextEdge, a_current, a_keptFirst, a_keptSecond, a_openIs, a_hasOther, a_tagLoop, a_tagRound, a_tagAround, a_waitNode, a_waitTag, a_waitValue, a_waitInput, a_readyNode, a_readyTag, a_readyA, a_readyB, a_readyInput, a_result, a_resultTime, a_stepsAt) => post r (f_lines, f_opened, f_nodes, f_edges, f_depth, f_tags, f_readyFrom, f_readyTo, f_ranOrder, f_isRun, f_ended, f_stepCount, f_now, a_lineKind, a_lineA, a_lineB, a_lineC, a_lineD, a_openLine, a_start, a_nodeKind, a_nodeNumber, a_firstEdge, a_edgeTo, a_edgeInput, a_nextEdge, a_current, a_keptFirst, a_keptSecond, a_openIs, a_hasOther, a_tagLoop, a_tagRound, a_tagAround, a_waitNode, a_waitTag, a_waitValue, a_waitInput, a_readyNode, a_readyTag, a_readyA, a_readyB, a_readyInput, a_result, a_resultTime, a_stepsAt)) (f_lines, f_opened, f_nodes, f_edges, f_depth, f_tags, f_readyFrom, f_readyTo, f_ranOrder, f_isRun, f_ended, f_stepCount, f_now, a_lineKind, a_lineA, a_lineB, a_lineC, a_lineD, a_openLine, a_start, a_nodeKind, a_nodeNumber, a_firstEdge, a_edgeTo, a_edgeInput, a_nextEdge, a_current, a_keptFirst, a_keptSecond, a_openIs, a_hasOther, a_tagLoop, a_tagRound, a_tagAround, a_waitNode, a_waitTag, a_waitValue, a_waitInput, a_readyNode, a_readyTag, a_readyA, a_readyB, a_readyInput, a_result, a_resultTime, a_stepsAt) x4_7 0 (nI t)) ∧ (¬ i = 0 → (vp_in (nI t) 420 ∧ (vp_in (nI t) 420 ∧ wpX_tagOf (fun r u => match u with | (f_lines, f_opened, f_nodes, f_edges, f_depth, f_tags, f_readyFrom, f_readyTo, f_ranOrder, f_isRun, f_ended, f_stepCount, f_now, a_lineKind, a_lineA, a_lineB, a_lineC, a_lineD, a_openLine, a_start, a_nodeKind, a_nodeNumber, a_firstEdge, a_edgeTo, a_edgeInput, a_nextEdge, a_current, a_keptFirst, a_keptSecond, a_openIs, a_hasOther, a_tagLoop, a_tagRound, a_tagAround, a_waitNode, a_waitTag, a_waitValue, a_waitInput, a_readyNode, a_readyTag, a_readyA, a_readyB, a_readyInput, a_result, a_resultTime, a_stepsAt) => post r (f_lines, f_opened, f_nodes, f_edges, f_depth, f_tags, f_readyFrom, f_readyTo, f_ranOrder, f_isRun, f_ended, f_stepCount, f_now, a_lineKind, a_lineA, a_lineB, a_lineC, a_lineD, a_openLine, a_start, a_nodeKind, a_nodeNumber, a_firstEdge, a_edgeTo, a_edgeInput, a_nextEdge, a_current, a_keptFirst, a_keptSecond, a_openIs, a_hasOther, a_tagLoop, a_tagRound, a_tagAround, a_waitNode, a_waitTag, a_waitValue, a_waitInput, a_readyNode, a_readyTag, a_readyA, a_readyB, a_readyInput, a_result, a_resultTime, a_stepsAt)) (f_lines, f_opened, f_nodes, f_edges, f_depth, f_tags, f_readyFrom, f_readyTo, f_ranOrder, f_isRun, f_ended, f_stepCount, f_now, a_lineKind, a_lineA, a_lineB, a_lineC, a_lineD, a_openLine, a_start, a_nodeKind, a_nodeNumber, a_firstEdge, a_edgeTo, a_edgeInput, a_nextEdge, a_current, a_keptFirst, a_keptSecond, a_openIs, a_hasOther, a_tagLoop, a_tagRound, a_tagAround, a_waitNode, a_waitTag, a_waitValue, a_waitInput, a_readyNode, a_readyTag, a_readyA, a_readyB, a_readyInput, a_result, a_resultTime, a_stepsAt) x4_7 (a_tagRound (nI t).toNatClampNeg + 1) (a_tagAround (nI t).toNatClampNeg))))))) ∧ (¬ a_nodeKind (mc_nd c K x) = 6 → (vp_in (nI (mc_nd c K x)) 320 ∧ ((a_nodeKind (mc_nd c K x) = 7 → (vp_in (nI t) 420 ∧ post (a_tagAround (nI t).toNatClampNeg) (f_lines, f_opened, f_nodes, f_edges, f_depth, f_tags, f_readyFrom, f_readyTo, f_ranOrder, f_isRun, f_ended, f_stepCount, f_now, a_lineKind, a_lineA, a_lineB, a_lineC, a_lineD, a_openLine, a_start, a_nodeKind, a_nodeNumber, a_firstEdge, a_edgeTo, a_edgeInput, a_nextEdge, a_current, a_keptFirst, a_keptSecond, a_openIs, a_hasOther, a_tagLoop, a_tagRound, a_tagAround, a_waitNode, a_waitTag, a_waitValue, a_waitInput, a_readyNode, a_readyTag, a_readyA, a_readyB, a_readyInput, a_result, a_resultTime, a_stepsAt))) ∧ (¬ a_nodeKind (mc_nd c K x) = 7 → post (nI t) (f_lines, f_opened, f_nodes, f_edges, f_depth, f_tags, f_readyFrom, f_readyTo, f_ranOrder, f_isRun, f_ended, f_stepCount, f_now, a_lineKind, a_lineA, a_lineB, a_lineC, a_lineD, a_openLine, a_start, a_nodeKind, a_nodeNumber, a_firstEdge, a_edgeTo, a_edgeInput, a_nextEdge, a_current, a_keptFirst, a_keptSecond, a_openIs, a_hasOther, a_tagLoop, a_tagRound, a_tagAround, a_waitNode, a_waitTag, a_waitValue, a_waitInput, a_readyNode, a_readyTag, a_readyA, a_readyB, a_readyInput, a_result, a_resultTime, a_stepsAt)))))) := by
    intro e he h6 h7 hm
    rw [he] at m1
    refine br_f (by rw [m1]; exact h6) (And.intro hni (br_f (by rw [m1]; exact h7) ?_))
    refine H _ t N (by omega) h ?_
    rw [hm]; exact ht
  have hgs := mg_s (c := c) K
  rcases cf_cases k (mc_pos k K) with ⟨e, _⟩ | ⟨e, _⟩ | ⟨e, _⟩ | ⟨e, _⟩ | ⟨e, hi, hf, hk⟩ | ⟨e, _⟩ | ⟨e, _⟩ | ⟨e, hi, hf, hk, hk2⟩ | ⟨e, hi, hf, hk, hk2⟩ | ⟨e, hn', _⟩
  · exact hsame 0 e (by decide) (by decide) (by rw [hgs]; simp only [cf_ng, e])
  · exact hsame 1 e (by decide) (by decide) (by rw [hgs]; simp only [cf_ng, e])
  · exact hsame 2 e (by decide) (by decide) (by rw [hgs]; simp only [cf_ng, e])
  · exact ((cf_sl_e e).mp hj).elim
  · rw [me, e] at m1
    have hm : mg c (K + 1) = (mi c K, 0) :: mg c K := by rw [hgs]; simp only [cf_ng, e]
    have ei : i = 0 := by
      rw [hin (by rw [mc_tw, me, e]; omega) (by rw [me, e]; omega), cf_in, e, if_neg (by decide)]
      rfl
    refine br_t m1 (And.intro hni (nm_r (m2.trans (q3 e)) (br_t ei ?_)))
    refine xs_tagOf (N := N) (i := mi c K) (r := 0) (s := t) hN0 hN1 hN ?_ ?_
    · intro t' a1 a2 a3 a4 a5
      refine H _ t' N (by omega) h ?_
      rw [hm]
      exact tg_old hN1 (by omega) hT (by omega) (by omega) ht a1 a2 a3 a4 a5
    · intro hno
      refine H _ N (N + 1) (by omega) (rn_tag h (by omega) (by omega) htl hno) ?_
      rw [hm]
      exact tg_new hN1 (by omega) (by omega) ht
  · exact hsame 5 e (by decide) (by decide) (by rw [hgs]; simp only [cf_ng, e])
  · exact hsame 6 e (by decide) (by decide) (by rw [hgs]; simp only [cf_ng, e])
  · rw [me, e] at m1
    obtain ⟨r, g, eg⟩ := mc_tag7 k (K := K) (Or.inl e)
    have hm : mg c (K + 1) = (cf_op c (mi c K), r + 1) :: g := by rw [hgs]; simp only [cf_ng, e]; rw [eg]; rfl
    have ei : i = 1 := by
      rw [hin (by rw [mc_tw, me, e]; omega) (by rw [me, e]; omega), cf_in, e, if_pos rfl]
      rfl
    have ht2 := ht
    rw [eg] at ht2
    obtain ⟨b1, b2, b3, b4, b5, b6, s, b7, b8, b9⟩ := ht2
    have hop := (cf_cl_c k hi hk).1
    refine br_t m1 (And.intro hni (nm_r (m2.trans (q4 e)) (br_f (by rw [ei]; decide) (And.intro hti (And.intro hti ?_)))))
    rw [htc, b6, b8, nI_1]
    refine xs_tagOf (N := N) (i := cf_op c (mi c K)) (r := r + 1) (s := s) hN0 hN1 hN ?_ ?_
    · intro t' a1 a2 a3 a4 a5
      refine H _ t' N (by omega) h ?_
      rw [hm]
      exact tg_old hN1 (by omega) hT (by omega) (by simp only [] at b4; omega) b9 a1 a2 a3 a4 a5
    · intro hno
      refine H _ N (N + 1) (by omega) (rn_tag h (by omega) (by simp only [] at b4; omega) (by omega) hno) ?_
      rw [hm]
      exact tg_new hN1 (by omega) (by simp only [] at b4; omega) b9
  · rw [me, e] at m1
    obtain ⟨r, g, eg⟩ := mc_tag7 k (K := K) (Or.inr e)
    have hm : mg c (K + 1) = g := by rw [hgs]; simp only [cf_ng, e]; rw [eg]; rfl
    have ht2 := ht
    rw [eg] at ht2
    obtain ⟨b1, b2, b3, b4, b5, b6, s, b7, b8, b9⟩ := ht2
    refine br_f (by rw [m1]; decide) (And.intro hni (br_t m1 (And.intro hti ?_)))
    rw [htc, b8]
    refine H _ s N (by omega) h ?_
    rw [hm]; exact b9
  · omega
theorem xs_calc {post : Int32 → Prop} {p a b : Int32} (H : post (cf_calc p a b)) : wpX_calculate post (f_lines, f_opened, f_nodes, f_edges, f_depth, f_tags, f_readyFrom, f_readyTo, f_ranOrder, f_isRun, f_ended, f_stepCount, f_now, a_lineKind, a_lineA, a_lineB, a_lineC, a_lineD, a_openLine, a_start, a_nodeKind, a_nodeNumber, a_firstEdge, a_edgeTo, a_edgeInput, a_nextEdge, a_current, a_keptFirst, a_keptSecond, a_openIs, a_hasOther, a_tagLoop, a_tagRound, a_tagAround, a_waitNode, a_waitTag, a_waitValue, a_waitInput, a_readyNode, a_readyTag, a_readyA, a_readyB, a_readyInput, a_result, a_resultTime, a_stepsAt) p a b := by
  rw [cf_calc] at H
  by_cases h0 : p = 0
  · rw [if_pos h0] at H; exact br_t h0 H
  · rw [if_neg h0] at H
    by_cases h1 : p = 1
    · rw [if_pos h1] at H; exact br_f h0 (br_t h1 H)
    · rw [if_neg h1] at H
      by_cases h2 : p = 2
      · rw [if_pos h2] at H; exact br_f h0 (br_f h1 (br_t h2 H))
      · rw [if_neg h2] at H
        by_cases h3 : p = 3
        · rw [if_pos h3] at H
          by_cases h4 : b ≤ a
          · rw [if_pos h4] at H; exact br_f h0 (br_f h1 (br_f h2 (br_t h3 (br_t h4 H))))
          · rw [if_neg h4] at H; exact br_f h0 (br_f h1 (br_f h2 (br_t h3 (br_f h4 H))))
        · rw [if_neg h3] at H
          by_cases h4 : a = b
          · rw [if_pos h4] at H; exact br_f h0 (br_f h1 (br_f h2 (br_f h3 (br_t h4 H))))
          · rw [if_neg h4] at H; exact br_f h0 (br_f h1 (br_f h2 (br_f h3 (br_f h4 H))))
/-- a step happens -/
theorem xs_happen (k : cf_ok c) {D : List (Nat × Nat)} {T : Nat × Nat} {ρ : List (Nat × Nat)} {N rf sc : Nat} {nw : Int32} {sa : Nat → Int32} {n t a b i : Int32} {post : SX → Prop}
    (hP : df_pl c (df_A c D T []) (T :: D) ρ) (hD : (T :: D).length ≤ 405) (hN : N < 420) (hrf : rf ≤ 405) (hnw : fg = true → nw = nI (mt c T.1 T.2))
    (H : ∀ u ρ' N', N' ≤ N + 1 → (∃ s, ρ' = ρ ++ s) → rn_I c fo fl fg (T :: D) T [] ρ' N' rf (sc + 1) nw sa u → df_pl c (df_A c (T :: D) T []) (T :: D) ρ' → post u)
    (u : SX) (h : rn_I c fo fl fg D T [] ρ N rf sc nw sa u) (hd : match u with | (f_lines, f_opened, f_nodes, f_edges, f_depth, f_tags, f_readyFrom, f_readyTo, f_ranOrder, f_isRun, f_ended, f_stepCount, f_now, a_lineKind, a_lineA, a_lineB, a_lineC, a_lineD, a_openLine, a_start, a_nodeKind, a_nodeNumber, a_firstEdge, a_edgeTo, a_edgeInput, a_nextEdge, a_current, a_keptFirst, a_keptSecond, a_openIs, a_hasOther, a_tagLoop, a_tagRound, a_tagAround, a_waitNode, a_waitTag, a_waitValue, a_waitInput, a_readyNode, a_readyTag, a_readyA, a_readyB, a_readyInput, a_result, a_resultTime, a_stepsAt) => rd_ok c a_tagLoop a_tagRound a_tagAround N T n t a b i) : wpX_happen post u n t a b i := by
  obtain ⟨f_lines, f_opened, f_nodes, f_edges, f_depth, f_tags, f_readyFrom, f_readyTo, f_ranOrder, f_isRun, f_ended, f_stepCount, f_now, a_lineKind, a_lineA, a_lineB, a_lineC, a_lineD, a_openLine, a_start, a_nodeKind, a_nodeNumber, a_firstEdge, a_edgeTo, a_edgeInput, a_nextEdge, a_current, a_keptFirst, a_keptSecond, a_openIs, a_hasOther, a_tagLoop, a_tagRound, a_tagAround, a_waitNode, a_waitTag, a_waitValue, a_waitInput, a_readyNode, a_readyTag, a_readyA, a_readyB, a_readyInput, a_result, a_resultTime, a_stepsAt⟩ := u
  obtain ⟨K, e1, hr, rfl, ⟨t', rfl, ht⟩, d1, d2⟩ := hd
  obtain ⟨T1, x⟩ := T
  have e1 : T1 = K + 1 := e1
  subst e1
  have hr : mr c K x = true := hr
  have rl : mc_real c (K + 1) x := ⟨mc_rx k hr, Or.inr ⟨K, rfl, hr⟩⟩
  have hlo := df_nd_lo k hr
  have hb2 := cf_nb_le (c := c) (cf_n c)
  have h20 := k.1.1
  have hni : vp_in (nI (mc_nd c K x)) 320 := vp_in_nI (by omega) (by decide)
  have hnc : (nI (mc_nd c K x)).toNatClampNeg = mc_nd c K x := nI_clamp (by omega)
  obtain ⟨j, hj, _⟩ := mc_sl_x k hr
  obtain ⟨q1, q2, q3, q4, q5⟩ := cf_node k (mc_pos k K) hj
  have hg := (tgx_el h.1).2
  have m1 : a_nodeKind (nI (mc_nd c K x)).toNatClampNeg = cf_nkd (me c K) := by
    rw [hnc]; exact (hg.2.2.1 _ hlo.2).1.trans q1
  have hsc : f_stepCount + 1 = nI (sc + 1) := by
    obtain ⟨_, _, _, _, _, z, _⟩ := h
    rw [z]; exact nI_1 sc
  refine nm_r hsc (And.intro hni (nm_r m1 ?_))
  have h' : rn_I c fo fl fg D (K + 1, x) [] ρ N rf (sc + 1) nw sa (f_lines, f_opened, f_nodes, f_edges, f_depth, f_tags, f_readyFrom, f_readyTo, f_ranOrder, f_isRun, f_ended, nI (sc + 1), f_now, a_lineKind, a_lineA, a_lineB, a_lineC, a_lineD, a_openLine, a_start, a_nodeKind, a_nodeNumber, a_firstEdge, a_edgeTo, a_edgeInput, a_nextEdge, a_current, a_keptFirst, a_keptSecond, a_openIs, a_hasOther, a_tagLoop, a_tagRound, a_tagAround, a_waitNode, a_waitTag, a_waitValue, a_waitInput, a_readyNode, a_readyTag, a_readyA, a_readyB, a_readyInput, a_result, a_resultTime, a_stepsAt) := by
    obtain ⟨z1, z2, z3, z4, z5, z6, z7⟩ := h
    exact And.intro (tgx_mk (tgx_el z1)) (And.intro z2 (And.intro z3 (And.intro z4 (And.intro z5 (And.intro rfl z7)))))
  refine xs_tagAfter k hN hr (fun z1 z2 => (d2 z1 z2).2) ?_ (f_lines, f_opened, f_nodes, f_edges, f_depth, f_tags, f_readyFrom, f_readyTo, f_ranOrder, f_isRun, f_ended, nI (sc + 1), f_now, a_lineKind, a_lineA, a_lineB, a_lineC, a_lineD, a_openLine, a_start, a_nodeKind, a_nodeNumber, a_firstEdge, a_edgeTo, a_edgeInput, a_nextEdge, a_current, a_keptFirst, a_keptSecond, a_openIs, a_hasOther, a_tagLoop, a_tagRound, a_tagAround, a_waitNode, a_waitTag, a_waitValue, a_waitInput, a_readyNode, a_readyTag, a_readyA, a_readyB, a_readyInput, a_result, a_resultTime, a_stepsAt) h' ht
  intro u ta N' hN' hu htu
  obtain ⟨f_lines, f_opened, f_nodes, f_edges, f_depth, f_tags, f_readyFrom, f_readyTo, f_ranOrder, f_isRun, f_ended, f_stepCount, f_now, a_lineKind, a_lineA, a_lineB, a_lineC, a_lineD, a_openLine, a_start, a_nodeKind, a_nodeNumber, a_firstEdge, a_edgeTo, a_edgeInput, a_nextEdge, a_current, a_keptFirst, a_keptSecond, a_openIs, a_hasOther, a_tagLoop, a_tagRound, a_tagAround, a_waitNode, a_waitTag, a_waitValue, a_waitInput, a_readyNode, a_readyTag, a_readyA, a_readyB, a_readyInput, a_result, a_resultTime, a_stepsAt⟩ := u
  have hg := (tgx_el hu.1).2
  have m2 : a_nodeNumber (nI (mc_nd c K x)).toNatClampNeg = cf_nn c (cf_n c) (mc_nd c K x) := by
    rw [hnc]; exact (hg.2.2.1 _ hlo.2).2
  obtain ⟨out, _⟩ := cf_out k (mc_pos k K) (mz c K) hr
  have e2 : (2 : Int32) * nI (mc_nd c K x) = nI (2 * mc_nd c K x) := pk_mul 2 _
  have hsend : ∀ (o : Nat) (v : Int32) (post' : SX → Prop), (∀ u, post u → post' u) → o = cf_loc c (mi c (K + 1)) (mf c (K + 1)) x → v = mv c (K + 1) x → wpX_send post' (f_lines, f_opened, f_nodes, f_edges, f_depth, f_tags, f_readyFrom, f_readyTo, f_ranOrder, f_isRun, f_ended, f_stepCount, f_now, a_lineKind, a_lineA, a_lineB, a_lineC, a_lineD, a_openLine, a_start, a_nodeKind, a_nodeNumber, a_firstEdge, a_edgeTo, a_edgeInput, a_nextEdge, a_current, a_keptFirst, a_keptSecond, a_openIs, a_hasOther, a_tagLoop, a_tagRound, a_tagAround, a_waitNode, a_waitTag, a_waitValue, a_waitInput, a_readyNode, a_readyTag, a_readyA, a_readyB, a_readyInput, a_result, a_resultTime, a_stepsAt) (nI o) (nI ta) v := by
    intro o v post' hpp ho hv
    refine xs_send (c := c) (fo := fo) (fl := fl) (fg := fg) k (T := (K + 1, x)) hP hD (by omega) hrf rl hnw ho hv ?_ (f_lines, f_opened, f_nodes, f_edges, f_depth, f_tags, f_readyFrom, f_readyTo, f_ranOrder, f_isRun, f_ended, f_stepCount, f_now, a_lineKind, a_lineA, a_lineB, a_lineC, a_lineD, a_openLine, a_start, a_nodeKind, a_nodeNumber, a_firstEdge, a_edgeTo, a_edgeInput, a_nextEdge, a_current, a_keptFirst, a_keptSecond, a_openIs, a_hasOther, a_tagLoop, a_tagRound, a_tagAround, a_waitNode, a_waitTag, a_waitValue, a_waitInput, a_readyNode, a_readyTag, a_readyA, a_readyB, a_readyInput, a_result, a_resultTime, a_stepsAt) hu htu
    intro u ρ' hx h1 h2
    exact hpp u (H u ρ' N' hN' hx h1 h2)
  have hpp : ∀ u : SX, post u → (match u with | (f_lines, f_opened, f_nodes, f_edges, f_depth, f_tags, f_readyFrom, f_readyTo, f_ranOrder, f_isRun, f_ended, f_stepCount, f_now, a_lineKind, a_lineA, a_lineB, a_lineC, a_lineD, a_openLine, a_start, a_nodeKind, a_nodeNumber, a_firstEdge, a_edgeTo, a_edgeInput, a_nextEdge, a_current, a_keptFirst, a_keptSecond, a_openIs, a_hasOther, a_tagLoop, a_tagRound, a_tagAround, a_waitNode, a_waitTag, a_waitValue, a_waitInput, a_readyNode, a_readyTag, a_readyA, a_readyB, a_readyInput, a_result, a_resultTime, a_stepsAt) => post (f_lines, f_opened, f_nodes, f_edges, f_depth, f_tags, f_readyFrom, f_readyTo, f_ranOrder, f_isRun, f_ended, f_stepCount, f_now, a_lineKind, a_lineA, a_lineB, a_lineC, a_lineD, a_openLine, a_start, a_nodeKind, a_nodeNumber, a_firstEdge, a_edgeTo, a_edgeInput, a_nextEdge, a_current, a_keptFirst, a_keptSecond, a_openIs, a_hasOther, a_tagLoop, a_tagRound, a_tagAround, a_waitNode, a_waitTag, a_waitValue, a_waitInput, a_readyNode, a_readyTag, a_readyA, a_readyB, a_readyInput, a_result, a_resultTime, a_stepsAt)) := fun u hu => hu
  have hmv := mv_s (c := c) K x
  rw [if_pos hr] at hmv
  have hloc : cf_loc c (mi c (K + 1)) (mf c (K + 1)) x = 2 * mc_nd c K x + (if (me c K = 2 ∨ me c K = 5) ∧ mz c K = true then 1 else 0) := out
  rcases cf_cases k (mc_pos k K) with ⟨e, hi, hf, hk⟩ | ⟨e, hi, hf, hk⟩ | ⟨e, hi, hf, hk⟩ | ⟨e, hi, hf, hk⟩ | ⟨e, hi, hf, hk⟩ | ⟨e, hi, hf, hk⟩ | ⟨e, hi, hf, hk, hk2⟩ | ⟨e, hi, hf, hk, hk2⟩ | ⟨e, hi, hf, hk, hk2⟩ | ⟨e, hn', _⟩
  · rw [show cf_nkd (me c K) = 2 from by rw [me, e]; rfl]
    refine br_t rfl (And.intro hni ?_)
    rw [e2, m2]
    refine hsend _ _ _ hpp ?_ ?_
    · rw [hloc, if_neg (by rw [me, e]; omega), Nat.add_zero]
    · rw [hmv, cf_nv]; simp only [e]; exact q2 (by omega)
  · have tw : mc_tw c K := Or.inl e
    obtain ⟨da, db⟩ := d1 tw
    rw [show cf_nkd (me c K) = 3 from by rw [me, e]; rfl]
    refine br_f (by decide) (br_t rfl (And.intro hni ?_))
    refine xs_calc ?_
    rw [e2, m2, da, db]
    refine hsend _ _ _ hpp ?_ ?_
    · rw [hloc, if_neg (by rw [me, e]; omega), Nat.add_zero]
    · have q2' : cf_nn c (cf_n c) (mc_nd c K x) = cf_lb c (mi c K) := q2 (by omega)
      rw [hmv, cf_nv, q2']; simp only [e, mc_sv, cf_sv, if_true]; rfl
  · have tw : mc_tw c K := Or.inr (Or.inl e)
    obtain ⟨da, db⟩ := d1 tw
    have da : a = mv c K x := by rw [da]; simp only [mc_sv, cf_sv, e, if_true]
    have db : b = mv c K (cf_va c (mi c K)) := by rw [db]; simp only [mc_sv, cf_sv, e]; rfl
    have hv : a = mv c (K + 1) x := by rw [hmv, cf_nv]; simp only [e]; exact da
    rw [show cf_nkd (me c K) = 4 from by rw [me, e]; rfl]
    refine br_f (by decide) (br_f (by decide) (br_t rfl ?_))
    by_cases hz : b = 0
    · refine br_t hz ?_
      have hz' : mz c K = true := by rw [mz, ← db]; exact decide_eq_true hz
      show wpX_send _ _ (2 * nI (mc_nd c K x) + 1) _ _
      rw [e2, nI_1]
      refine hsend _ _ _ hpp ?_ hv
      rw [hloc, if_pos ⟨Or.inl e, hz'⟩]
    · refine br_f hz ?_
      have hz' : mz c K = false := by rw [mz, ← db]; exact decide_eq_false hz
      show wpX_send _ _ (2 * nI (mc_nd c K x)) _ _
      rw [e2]
      refine hsend _ _ _ hpp ?_ hv
      rw [hloc, if_neg (by rw [hz']; simp), Nat.add_zero]
  · exact ((cf_sl_e e).mp hj).elim
  · have hv : a = mv c (K + 1) x := by rw [hmv, cf_nv]; simp only [e]; exact (d2 (by rw [mc_tw, me, e]; omega) (by rw [me, e]; omega)).1
    rw [show cf_nkd (me c K) = 6 from by rw [me, e]; rfl]
    refine br_f (by decide) (br_f (by decide) (br_f (by decide) ?_))
    rw [e2]
    refine hsend _ _ _ hpp ?_ hv
    rw [hloc, if_neg (by rw [me, e]; omega), Nat.add_zero]
  · have tw : mc_tw c K := Or.inr (Or.inr e)
    obtain ⟨da, db⟩ := d1 tw
    have da : a = mv c K x := by rw [da]; simp only [mc_sv, cf_sv, e, if_true]
    have db : b = mv c K (cf_va c (mi c K)) := by rw [db]; simp only [mc_sv, cf_sv, e]; rfl
    have hv : a = mv c (K + 1) x := by rw [hmv, cf_nv]; simp only [e]; exact da
    rw [show cf_nkd (me c K) = 4 from by rw [me, e]; rfl]
    refine br_f (by decide) (br_f (by decide) (br_t rfl ?_))
    by_cases hz : b = 0
    · refine br_t hz ?_
      have hz' : mz c K = true := by rw [mz, ← db]; exact decide_eq_true hz
      show wpX_send _ _ (2 * nI (mc_nd c K x) + 1) _ _
      rw [e2, nI_1]
      refine hsend _ _ _ hpp ?_ hv
      rw [hloc, if_pos ⟨Or.inr e, hz'⟩]
    · refine br_f hz ?_
      have hz' : mz c K = false := by rw [mz, ← db]; exact decide_eq_false hz
      show wpX_send _ _ (2 * nI (mc_nd c K x)) _ _
      rw [e2]
      refine hsend _ _ _ hpp ?_ hv
      rw [hloc, if_neg (by rw [hz']; simp), Nat.add_zero]
  · have hv : a = mv c (K + 1) x := by rw [hmv, cf_nv]; simp only [e]; exact (d2 (by rw [mc_tw, me, e]; omega) (by rw [me, e]; omega)).1
    rw [show cf_nkd (me c K) = 5 from by rw [me, e]; rfl]
    refine br_f (by decide) (br_f (by decide) (br_f (by decide) ?_))
    rw [e2]
    refine hsend _ _ _ hpp ?_ hv
    rw [hloc, if_neg (by rw [me, e]; omega), Nat.add_zero]
  · have hv : a = mv c (K + 1) x := by rw [hmv, cf_nv]; simp only [e]; exact (d2 (by rw [mc_tw, me, e]; omega) (by rw [me, e]; omega)).1
    rw [show cf_nkd (me c K) = 6 from by rw [me, e]; rfl]
    refine br_f (by decide) (br_f (by decide) (br_f (by decide) ?_))
    rw [e2]
    refine hsend _ _ _ hpp ?_ hv
    rw [hloc, if_neg (by rw [me, e]; omega), Nat.add_zero]
  · have hv : a = mv c (K + 1) x := by rw [hmv, cf_nv]; simp only [e]; exact (d2 (by rw [mc_tw, me, e]; omega) (by rw [me, e]; omega)).1
    rw [show cf_nkd (me c K) = 7 from by rw [me, e]; rfl]
    refine br_f (by decide) (br_f (by decide) (br_f (by decide) ?_))
    rw [e2]
    refine hsend _ _ _ hpp ?_ hv
    rw [hloc, if_neg (by rw [me, e]; omega), Nat.add_zero]
  · have := mc_ni k hr
    omega
end
end
section
/-! a run begins -/
section
variable {c : CF} {fo : Int32} {fl : Nat → Int32} {fg : Bool}
variable {f_lines f_opened f_nodes f_edges f_depth f_tags f_readyFrom f_readyTo f_ranOrder f_isRun f_ended f_stepCount f_now : Int32} {a_lineKind a_lineA a_lineB a_lineC a_lineD a_openLine a_start a_nodeKind a_nodeNumber a_firstEdge a_edgeTo a_edgeInput a_nextEdge a_current a_keptFirst a_keptSecond a_openIs a_hasOther a_tagLoop a_tagRound a_tagAround a_waitNode a_waitTag a_waitValue a_waitInput a_readyNode a_readyTag a_readyA a_readyB a_readyInput a_result a_resultTime a_stepsAt : Nat → Int32}
theorem df_A_T {D : List (Nat × Nat)} {T T' : Nat × Nat} (K x j : Nat) : df_A c D T [] K x j ↔ df_A c D T' [] K x j := by
  constructor
  · rintro ⟨a, b, d | ⟨_, d⟩⟩
    · exact ⟨a, b, Or.inl d⟩
    · cases d
  · rintro ⟨a, b, d | ⟨_, d⟩⟩
    · exact ⟨a, b, Or.inl d⟩
    · cases d
theorem rn_T {D : List (Nat × Nat)} {T T' : Nat × Nat} {ρ : List (Nat × Nat)} {N rf sc : Nat} {nw : Int32} {sa : Nat → Int32} {u : SX} (h : rn_I c fo fl fg D T [] ρ N rf sc nw sa u) : rn_I c fo fl fg D T' [] ρ N rf sc nw sa u := by
  obtain ⟨f_lines, f_opened, f_nodes, f_edges, f_depth, f_tags, f_readyFrom, f_readyTo, f_ranOrder, f_isRun, f_ended, f_stepCount, f_now, a_lineKind, a_lineA, a_lineB, a_lineC, a_lineD, a_openLine, a_start, a_nodeKind, a_nodeNumber, a_firstEdge, a_edgeTo, a_edgeInput, a_nextEdge, a_current, a_keptFirst, a_keptSecond, a_openIs, a_hasOther, a_tagLoop, a_tagRound, a_tagAround, a_waitNode, a_waitTag, a_waitValue, a_waitInput, a_readyNode, a_readyTag, a_readyA, a_readyB, a_readyInput, a_result, a_resultTime, a_stepsAt⟩ := u
  obtain ⟨hg, hT, ⟨wl, hw⟩, hr, hs, hq⟩ := h
  refine And.intro hg (And.intro hT (And.intro ⟨wl, wt_c hw df_A_T⟩ (And.intro hr (And.intro ?_ hq))))
  intro x K hx hK hc
  apply hs x K hx hK
  rcases hc with z | ⟨_, z⟩
  · exact Or.inl z
  · cases z
/-- between two steps -/
def id_I (c : CF) (fo : Int32) (fl : Nat → Int32) (fg : Bool) (D ρ : List (Nat × Nat)) (N rf sc : Nat) (nw : Int32) (sa : Nat → Int32) (u : SX) : Prop :=
  rn_I c fo fl fg D (0, 0) [] ρ N rf sc nw sa u ∧ df_pl c (df_A c D (0, 0) []) D ρ
def st_D : Nat → List (Nat × Nat)
  | 0 => []
  | x + 1 => (0, x) :: st_D x
theorem st_D_m (K y : Nat) : ∀ x, (K, y) ∈ st_D x ↔ K = 0 ∧ y < x := by
  intro x
  induction x with
  | zero => simp [st_D]
  | succ x ih =>
    rw [st_D, List.mem_cons, ih, Prod.mk.injEq]
    omega
theorem st_D_l : ∀ x, (st_D x).length = x
  | 0 => rfl
  | x + 1 => by rw [st_D, List.length_cons, st_D_l x]
def ux_s3 (post : SX → Prop) (n : Nat) (x1 : Int32) (u : SX) : Prop := match u with
  | (f_lines, f_opened, f_nodes, f_edges, f_depth, f_tags, f_readyFrom, f_readyTo, f_ranOrder, f_isRun, f_ended, f_stepCount, f_now, a_lineKind, a_lineA, a_lineB, a_lineC, a_lineD, a_openLine, a_start, a_nodeKind, a_nodeNumber, a_firstEdge, a_edgeTo, a_edgeInput, a_nextEdge, a_current, a_keptFirst, a_keptSecond, a_openIs, a_hasOther, a_tagLoop, a_tagRound, a_tagAround, a_waitNode, a_waitTag, a_waitValue, a_waitInput, a_readyNode, a_readyTag, a_readyA, a_readyB, a_readyInput, a_result, a_resultTime, a_stepsAt) => wX_startRun_71 post n x1 f_lines f_opened f_nodes f_edges f_depth f_tags f_readyFrom f_readyTo f_ranOrder f_isRun f_ended f_stepCount f_now a_lineKind a_lineA a_lineB a_lineC a_lineD a_openLine a_start a_nodeKind a_nodeNumber a_firstEdge a_edgeTo a_edgeInput a_nextEdge a_current a_keptFirst a_keptSecond a_openIs a_hasOther a_tagLoop a_tagRound a_tagAround a_waitNode a_waitTag a_waitValue a_waitInput a_readyNode a_readyTag a_readyA a_readyB a_readyInput a_result a_resultTime a_stepsAt
theorem xs_s3 (k : cf_ok c) {sa : Nat → Int32} {post : SX → Prop} (H : ∀ u ρ, id_I c fo fl fg (st_D 5) ρ 1 0 0 0 sa u → post u) :
    ∀ m x, x + m = 5 → ∀ n, m < n → ∀ u ρ, id_I c fo fl fg (st_D x) ρ 1 0 0 0 sa u → ux_s3 post n (nI x) u := by
  intro m
  induction m with
  | zero =>
    intro x hx n hn u ρ h
    obtain ⟨n, rfl⟩ : ∃ n', n = n' + 1 := ⟨n - 1, by omega⟩
    have : x = 5 := by omega
    subst this
    obtain ⟨f_lines, f_opened, f_nodes, f_edges, f_depth, f_tags, f_readyFrom, f_readyTo, f_ranOrder, f_isRun, f_ended, f_stepCount, f_now, a_lineKind, a_lineA, a_lineB, a_lineC, a_lineD, a_openLine, a_start, a_nodeKind, a_nodeNumber, a_firstEdge, a_edgeTo, a_edgeInput, a_nextEdge, a_current, a_keptFirst, a_keptSecond, a_openIs, a_hasOther, a_tagLoop, a_tagRound, a_tagAround, a_waitNode, a_waitTag, a_waitValue, a_waitInput, a_readyNode, a_readyTag, a_readyA, a_readyB, a_readyInput, a_result, a_resultTime, a_stepsAt⟩ := u
    exact br_t (by decide) (H _ ρ h)
  | succ m ih =>
    intro x hx n hn u ρ h
    obtain ⟨n, rfl⟩ : ∃ n', n = n' + 1 := ⟨n - 1, by omega⟩
    have h5 : x < 5 := by omega
    obtain ⟨f_lines, f_opened, f_nodes, f_edges, f_depth, f_tags, f_readyFrom, f_readyTo, f_ranOrder, f_isRun, f_ended, f_stepCount, f_now, a_lineKind, a_lineA, a_lineB, a_lineC, a_lineD, a_openLine, a_start, a_nodeKind, a_nodeNumber, a_firstEdge, a_edgeTo, a_edgeInput, a_nextEdge, a_current, a_keptFirst, a_keptSecond, a_openIs, a_hasOther, a_tagLoop, a_tagRound, a_tagAround, a_waitNode, a_waitTag, a_waitValue, a_waitInput, a_readyNode, a_readyTag, a_readyA, a_readyB, a_readyInput, a_result, a_resultTime, a_stepsAt⟩ := u
    obtain ⟨h1, h2⟩ := h
    have hst := (tgx_el h1.1).1.2.2.2.2.2.2.2.2
    have rl : mc_real c 0 x := ⟨h5, Or.inl rfl⟩
    have hP : df_pl c (df_A c (st_D x) (0, x) []) ((0, x) :: st_D x) ρ := df_pl_c (df_pl_0 h2 h5 (by rw [st_D_m]; omega)) df_A_T
    have e2 : (2 : Int32) * nI x = nI (2 * x) := pk_mul 2 _
    have hgo : ∀ v, v = mv c 0 x → wX_startRun_91 post (wX_startRun_71 post n) (nI x) v f_lines f_opened f_nodes f_edges f_depth f_tags f_readyFrom f_readyTo f_ranOrder f_isRun f_ended f_stepCount f_now a_lineKind a_lineA a_lineB a_lineC a_lineD a_openLine a_start a_nodeKind a_nodeNumber a_firstEdge a_edgeTo a_edgeInput a_nextEdge a_current a_keptFirst a_keptSecond a_openIs a_hasOther a_tagLoop a_tagRound a_tagAround a_waitNode a_waitTag a_waitValue a_waitInput a_readyNode a_readyTag a_readyA a_readyB a_readyInput a_result a_resultTime a_stepsAt := by
      intro v hv
      show wpX_send _ _ (2 * nI x) _ _
      rw [e2]
      refine xs_send (c := c) (fo := fo) (fl := fl) (fg := fg) k (t := 0) (T := (0, x)) hP (by rw [List.length_cons, st_D_l]; omega) (by decide) (by decide) rl (fun _ => rfl) rfl hv ?_ (f_lines, f_opened, f_nodes, f_edges, f_depth, f_tags, f_readyFrom, f_readyTo, f_ranOrder, f_isRun, f_ended, f_stepCount, f_now, a_lineKind, a_lineA, a_lineB, a_lineC, a_lineD, a_openLine, a_start, a_nodeKind, a_nodeNumber, a_firstEdge, a_edgeTo, a_edgeInput, a_nextEdge, a_current, a_keptFirst, a_keptSecond, a_openIs, a_hasOther, a_tagLoop, a_tagRound, a_tagAround, a_waitNode, a_waitTag, a_waitValue, a_waitInput, a_readyNode, a_readyTag, a_readyA, a_readyB, a_readyInput, a_result, a_resultTime, a_stepsAt) (rn_T h1) rfl
      intro u ρ' _ g1 g2
      obtain ⟨f_lines, f_opened, f_nodes, f_edges, f_depth, f_tags, f_readyFrom, f_readyTo, f_ranOrder, f_isRun, f_ended, f_stepCount, f_now, a_lineKind, a_lineA, a_lineB, a_lineC, a_lineD, a_openLine, a_start, a_nodeKind, a_nodeNumber, a_firstEdge, a_edgeTo, a_edgeInput, a_nextEdge, a_current, a_keptFirst, a_keptSecond, a_openIs, a_hasOther, a_tagLoop, a_tagRound, a_tagAround, a_waitNode, a_waitTag, a_waitValue, a_waitInput, a_readyNode, a_readyTag, a_readyA, a_readyB, a_readyInput, a_result, a_resultTime, a_stepsAt⟩ := u
      refine nm_r (e' := nI (x + 1)) (nI_1 x) ?_
      exact ih (x + 1) (by omega) n (by omega) (f_lines, f_opened, f_nodes, f_edges, f_depth, f_tags, f_readyFrom, f_readyTo, f_ranOrder, f_isRun, f_ended, f_stepCount, f_now, a_lineKind, a_lineA, a_lineB, a_lineC, a_lineD, a_openLine, a_start, a_nodeKind, a_nodeNumber, a_firstEdge, a_edgeTo, a_edgeInput, a_nextEdge, a_current, a_keptFirst, a_keptSecond, a_openIs, a_hasOther, a_tagLoop, a_tagRound, a_tagAround, a_waitNode, a_waitTag, a_waitValue, a_waitInput, a_readyNode, a_readyTag, a_readyA, a_readyB, a_readyInput, a_result, a_resultTime, a_stepsAt) ρ' ⟨rn_T g1, df_pl_c g2 df_A_T⟩
    refine br_f (lt5' x h5) ?_
    by_cases h4 : x < 4
    · refine br_f (nI_ge (b := 4) h4 (by decide)) (And.intro (vp_in_nI h4 (by decide)) (hgo _ ?_))
      rw [nI_clamp (by omega), hst]
      show _ = if x < 4 then cf_s0 c x else 0
      rw [if_pos h4]; rfl
    · refine br_t (nI_le (a := 4) (by omega) (by omega)) (hgo _ ?_)
      show _ = if x < 4 then cf_s0 c x else 0
      rw [if_neg h4]
theorem id_0 (k : cf_ok c) (hg : tg_I c fo fl (f_lines, f_opened, f_nodes, f_edges, f_depth, f_tags, f_readyFrom, f_readyTo, f_ranOrder, f_isRun, f_ended, f_stepCount, f_now, a_lineKind, a_lineA, a_lineB, a_lineC, a_lineD, a_openLine, a_start, a_nodeKind, a_nodeNumber, a_firstEdge, a_edgeTo, a_edgeInput, a_nextEdge, a_current, a_keptFirst, a_keptSecond, a_openIs, a_hasOther, a_tagLoop, a_tagRound, a_tagAround, a_waitNode, a_waitTag, a_waitValue, a_waitInput, a_readyNode, a_readyTag, a_readyA, a_readyB, a_readyInput, a_result, a_resultTime, a_stepsAt)) (hw : ∀ h, h < 8192 → a_waitNode h = -1) : id_I c fo fl fg [] [] 1 0 0 0 a_stepsAt (f_lines, f_opened, f_nodes, f_edges, f_depth, 1, 0, 0, f_ranOrder, f_isRun, f_ended, 0, 0, a_lineKind, a_lineA, a_lineB, a_lineC, a_lineD, a_openLine, a_start, a_nodeKind, a_nodeNumber, a_firstEdge, a_edgeTo, a_edgeInput, a_nextEdge, a_current, a_keptFirst, a_keptSecond, a_openIs, a_hasOther, a_tagLoop, a_tagRound, a_tagAround, a_waitNode, a_waitTag, a_waitValue, a_waitInput, a_readyNode, a_readyTag, a_readyA, a_readyB, a_readyInput, a_result, a_resultTime, a_stepsAt) := by
  have hA : ∀ K x j, ¬ df_A c [] (0, 0) [] K x j := by
    rintro K x j ⟨_, _, z | ⟨_, z⟩⟩ <;> cases z
  refine And.intro (And.intro (tgx_mk (tgx_el hg)) (And.intro ⟨rfl, Nat.le_refl _, fun t h0 h1 => by omega, fun t t' h0 h1 => by omega⟩ (And.intro ⟨[], List.nodup_nil, fun h hh => Or.inl (hw h hh), (fun K x h z => nomatch z), fun K x j z => absurd z (hA K x j)⟩ (And.intro ⟨rfl, rfl, (fun q T z => nomatch z)⟩ (And.intro ?_ ⟨rfl, rfl, rfl⟩))))) ?_
  · rintro x K hx hK (z | ⟨_, z⟩) <;> cases z
  · refine ⟨List.nodup_nil, (fun T z => nomatch z), (fun T z => nomatch z), fun K x hr => ⟨fun z => ?_, fun z => nomatch z⟩⟩
    obtain ⟨j, hj, _⟩ := mc_sl_x k hr
    exact absurd (z j hj) (hA K x j)
def ux_s2 (post : SX → Prop) (n : Nat) (x1 : Int32) (u : SX) : Prop := match u with
  | (f_lines, f_opened, f_nodes, f_edges, f_depth, f_tags, f_readyFrom, f_readyTo, f_ranOrder, f_isRun, f_ended, f_stepCount, f_now, a_lineKind, a_lineA, a_lineB, a_lineC, a_lineD, a_openLine, a_start, a_nodeKind, a_nodeNumber, a_firstEdge, a_edgeTo, a_edgeInput, a_nextEdge, a_current, a_keptFirst, a_keptSecond, a_openIs, a_hasOther, a_tagLoop, a_tagRound, a_tagAround, a_waitNode, a_waitTag, a_waitValue, a_waitInput, a_readyNode, a_readyTag, a_readyA, a_readyB, a_readyInput, a_result, a_resultTime, a_stepsAt) => wX_startRun_24 post f_lines f_opened f_nodes f_edges f_depth f_tags f_readyFrom f_readyTo f_ranOrder f_isRun f_ended f_stepCount f_now n x1 a_lineKind a_lineA a_lineB a_lineC a_lineD a_openLine a_start a_nodeKind a_nodeNumber a_firstEdge a_edgeTo a_edgeInput a_nextEdge a_current a_keptFirst a_keptSecond a_openIs a_hasOther a_tagLoop a_tagRound a_tagAround a_waitNode a_waitTag a_waitValue a_waitInput a_readyNode a_readyTag a_readyA a_readyB a_readyInput a_result a_resultTime a_stepsAt
def ux_s1 (post : SX → Prop) (n : Nat) (x1 : Int32) (u : SX) : Prop := match u with
  | (f_lines, f_opened, f_nodes, f_edges, f_depth, f_tags, f_readyFrom, f_readyTo, f_ranOrder, f_isRun, f_ended, f_stepCount, f_now, a_lineKind, a_lineA, a_lineB, a_lineC, a_lineD, a_openLine, a_start, a_nodeKind, a_nodeNumber, a_firstEdge, a_edgeTo, a_edgeInput, a_nextEdge, a_current, a_keptFirst, a_keptSecond, a_openIs, a_hasOther, a_tagLoop, a_tagRound, a_tagAround, a_waitNode, a_waitTag, a_waitValue, a_waitInput, a_readyNode, a_readyTag, a_readyA, a_readyB, a_readyInput, a_result, a_resultTime, a_stepsAt) => wX_startRun_2 post f_lines f_opened f_nodes f_edges f_depth f_tags f_readyFrom f_readyTo f_ranOrder f_isRun f_ended f_stepCount f_now n x1 a_lineKind a_lineA a_lineB a_lineC a_lineD a_openLine a_start a_nodeKind a_nodeNumber a_firstEdge a_edgeTo a_edgeInput a_nextEdge a_current a_keptFirst a_keptSecond a_openIs a_hasOther a_tagLoop a_tagRound a_tagAround a_waitNode a_waitTag a_waitValue a_waitInput a_readyNode a_readyTag a_readyA a_readyB a_readyInput a_result a_resultTime a_stepsAt
theorem xs_s2 (k : cf_ok c) {post : SX → Prop} (H : ∀ u ρ sa, (∀ t, t < 402 → sa t = 0) → id_I c fo fl fg (st_D 5) ρ 1 0 0 0 sa u → post u) :
    ∀ m x, x + m = 402 → ∀ n, m < n → ∀ u, (tg_I c fo fl u ∧ match u with | (f_lines, f_opened, f_nodes, f_edges, f_depth, f_tags, f_readyFrom, f_readyTo, f_ranOrder, f_isRun, f_ended, f_stepCount, f_now, a_lineKind, a_lineA, a_lineB, a_lineC, a_lineD, a_openLine, a_start, a_nodeKind, a_nodeNumber, a_firstEdge, a_edgeTo, a_edgeInput, a_nextEdge, a_current, a_keptFirst, a_keptSecond, a_openIs, a_hasOther, a_tagLoop, a_tagRound, a_tagAround, a_waitNode, a_waitTag, a_waitValue, a_waitInput, a_readyNode, a_readyTag, a_readyA, a_readyB, a_readyInput, a_result, a_resultTime, a_stepsAt) => (∀ h, h < 8192 → a_waitNode h = -1) ∧ ∀ t, t < x → a_stepsAt t = 0) → ux_s2 post n (nI x) u := by
  intro m
  induction m with
  | zero =>
    intro x hx n hn u h
    obtain ⟨n, rfl⟩ : ∃ n', n = n' + 1 := ⟨n - 1, by omega⟩
    have : x = 402 := by omega
    subst this
    obtain ⟨f_lines, f_opened, f_nodes, f_edges, f_depth, f_tags, f_readyFrom, f_readyTo, f_ranOrder, f_isRun, f_ended, f_stepCount, f_now, a_lineKind, a_lineA, a_lineB, a_lineC, a_lineD, a_openLine, a_start, a_nodeKind, a_nodeNumber, a_firstEdge, a_edgeTo, a_edgeInput, a_nextEdge, a_current, a_keptFirst, a_keptSecond, a_openIs, a_hasOther, a_tagLoop, a_tagRound, a_tagAround, a_waitNode, a_waitTag, a_waitValue, a_waitInput, a_readyNode, a_readyTag, a_readyA, a_readyB, a_readyInput, a_result, a_resultTime, a_stepsAt⟩ := u
    obtain ⟨hg, hw, hs⟩ := h
    refine br_t (by decide) ⟨6, ?_⟩
    refine xs_s3 (c := c) (fo := fo) (fl := fl) (fg := fg) k (sa := a_stepsAt) (fun u ρ hu => H u ρ a_stepsAt hs hu) 5 0 rfl 6 (by omega) (f_lines, f_opened, f_nodes, f_edges, f_depth, 1, 0, 0, f_ranOrder, f_isRun, f_ended, 0, 0, a_lineKind, a_lineA, a_lineB, a_lineC, a_lineD, a_openLine, a_start, a_nodeKind, a_nodeNumber, a_firstEdge, a_edgeTo, a_edgeInput, a_nextEdge, a_current, a_keptFirst, a_keptSecond, a_openIs, a_hasOther, a_tagLoop, a_tagRound, a_tagAround, a_waitNode, a_waitTag, a_waitValue, a_waitInput, a_readyNode, a_readyTag, a_readyA, a_readyB, a_readyInput, a_result, a_resultTime, a_stepsAt) [] ?_
    exact id_0 k hg hw
  | succ m ih =>
    intro x hx n hn u h
    obtain ⟨n, rfl⟩ : ∃ n', n = n' + 1 := ⟨n - 1, by omega⟩
    obtain ⟨f_lines, f_opened, f_nodes, f_edges, f_depth, f_tags, f_readyFrom, f_readyTo, f_ranOrder, f_isRun, f_ended, f_stepCount, f_now, a_lineKind, a_lineA, a_lineB, a_lineC, a_lineD, a_openLine, a_start, a_nodeKind, a_nodeNumber, a_firstEdge, a_edgeTo, a_edgeInput, a_nextEdge, a_current, a_keptFirst, a_keptSecond, a_openIs, a_hasOther, a_tagLoop, a_tagRound, a_tagAround, a_waitNode, a_waitTag, a_waitValue, a_waitInput, a_readyNode, a_readyTag, a_readyA, a_readyB, a_readyInput, a_result, a_resultTime, a_stepsAt⟩ := u
    obtain ⟨hg, hw, hs⟩ := h
    refine br_f (nI_ge (b := 402) (by omega) (by decide)) (And.intro (vp_in_nI (by omega) (by decide)) (nm_r (e' := upd a_stepsAt x 0) (by rw [nI_clamp (by omega)]) (nm_r (e' := nI (x + 1)) (nI_1 x) ?_)))
    refine ih (x + 1) (by omega) n (by omega) (f_lines, f_opened, f_nodes, f_edges, f_depth, f_tags, f_readyFrom, f_readyTo, f_ranOrder, f_isRun, f_ended, f_stepCount, f_now, a_lineKind, a_lineA, a_lineB, a_lineC, a_lineD, a_openLine, a_start, a_nodeKind, a_nodeNumber, a_firstEdge, a_edgeTo, a_edgeInput, a_nextEdge, a_current, a_keptFirst, a_keptSecond, a_openIs, a_hasOther, a_tagLoop, a_tagRound, a_tagAround, a_waitNode, a_waitTag, a_waitValue, a_waitInput, a_readyNode, a_readyTag, a_readyA, a_readyB, a_readyInput, a_result, a_resultTime, upd a_stepsAt x 0) (And.intro (tgx_mk (tgx_el hg)) (And.intro hw ?_))
    intro t ht
    by_cases e : t = x
    · subst e; rw [pk_us]
    · rw [pk_un e]; exact hs t (by omega)
theorem xs_s1 (k : cf_ok c) {post : SX → Prop} (H : ∀ u ρ sa, (∀ t, t < 402 → sa t = 0) → id_I c fo fl fg (st_D 5) ρ 1 0 0 0 sa u → post u) :
    ∀ m x, x + m = 8192 → ∀ n, m < n → ∀ u, (tg_I c fo fl u ∧ match u with | (f_lines, f_opened, f_nodes, f_edges, f_depth, f_tags, f_readyFrom, f_readyTo, f_ranOrder, f_isRun, f_ended, f_stepCount, f_now, a_lineKind, a_lineA, a_lineB, a_lineC, a_lineD, a_openLine, a_start, a_nodeKind, a_nodeNumber, a_firstEdge, a_edgeTo, a_edgeInput, a_nextEdge, a_current, a_keptFirst, a_keptSecond, a_openIs, a_hasOther, a_tagLoop, a_tagRound, a_tagAround, a_waitNode, a_waitTag, a_waitValue, a_waitInput, a_readyNode, a_readyTag, a_readyA, a_readyB, a_readyInput, a_result, a_resultTime, a_stepsAt) => (∀ h, h < x → a_waitNode h = -1)) → ux_s1 post n (nI x) u := by
  intro m
  induction m with
  | zero =>
    intro x hx n hn u h
    obtain ⟨n, rfl⟩ : ∃ n', n = n' + 1 := ⟨n - 1, by omega⟩
    have : x = 8192 := by omega
    subst this
    obtain ⟨f_lines, f_opened, f_nodes, f_edges, f_depth, f_tags, f_readyFrom, f_readyTo, f_ranOrder, f_isRun, f_ended, f_stepCount, f_now, a_lineKind, a_lineA, a_lineB, a_lineC, a_lineD, a_openLine, a_start, a_nodeKind, a_nodeNumber, a_firstEdge, a_edgeTo, a_edgeInput, a_nextEdge, a_current, a_keptFirst, a_keptSecond, a_openIs, a_hasOther, a_tagLoop, a_tagRound, a_tagAround, a_waitNode, a_waitTag, a_waitValue, a_waitInput, a_readyNode, a_readyTag, a_readyA, a_readyB, a_readyInput, a_result, a_resultTime, a_stepsAt⟩ := u
    obtain ⟨hg, hw⟩ := h
    refine br_t (by decide) ⟨403, ?_⟩
    exact xs_s2 (c := c) (fo := fo) (fl := fl) (fg := fg) k H 402 0 rfl 403 (by omega) (f_lines, f_opened, f_nodes, f_edges, f_depth, f_tags, f_readyFrom, f_readyTo, f_ranOrder, f_isRun, f_ended, f_stepCount, f_now, a_lineKind, a_lineA, a_lineB, a_lineC, a_lineD, a_openLine, a_start, a_nodeKind, a_nodeNumber, a_firstEdge, a_edgeTo, a_edgeInput, a_nextEdge, a_current, a_keptFirst, a_keptSecond, a_openIs, a_hasOther, a_tagLoop, a_tagRound, a_tagAround, a_waitNode, a_waitTag, a_waitValue, a_waitInput, a_readyNode, a_readyTag, a_readyA, a_readyB, a_readyInput, a_result, a_resultTime, a_stepsAt) (And.intro hg (And.intro hw fun t ht => absurd ht (Nat.not_lt_zero _)))
  | succ m ih =>
    intro x hx n hn u h
    obtain ⟨n, rfl⟩ : ∃ n', n = n' + 1 := ⟨n - 1, by omega⟩
    obtain ⟨f_lines, f_opened, f_nodes, f_edges, f_depth, f_tags, f_readyFrom, f_readyTo, f_ranOrder, f_isRun, f_ended, f_stepCount, f_now, a_lineKind, a_lineA, a_lineB, a_lineC, a_lineD, a_openLine, a_start, a_nodeKind, a_nodeNumber, a_firstEdge, a_edgeTo, a_edgeInput, a_nextEdge, a_current, a_keptFirst, a_keptSecond, a_openIs, a_hasOther, a_tagLoop, a_tagRound, a_tagAround, a_waitNode, a_waitTag, a_waitValue, a_waitInput, a_readyNode, a_readyTag, a_readyA, a_readyB, a_readyInput, a_result, a_resultTime, a_stepsAt⟩ := u
    obtain ⟨hg, hw⟩ := h
    refine br_f (nI_ge (b := 8192) (by omega) (by decide)) (And.intro (vp_in_nI (by omega) (by decide)) (nm_r (e' := upd a_waitNode x (-1)) (by rw [nI_clamp (by omega)]) (nm_r (e' := nI (x + 1)) (nI_1 x) ?_)))
    refine ih (x + 1) (by omega) n (by omega) (f_lines, f_opened, f_nodes, f_edges, f_depth, f_tags, f_readyFrom, f_readyTo, f_ranOrder, f_isRun, f_ended, f_stepCount, f_now, a_lineKind, a_lineA, a_lineB, a_lineC, a_lineD, a_openLine, a_start, a_nodeKind, a_nodeNumber, a_firstEdge, a_edgeTo, a_edgeInput, a_nextEdge, a_current, a_keptFirst, a_keptSecond, a_openIs, a_hasOther, a_tagLoop, a_tagRound, a_tagAround, upd a_waitNode x (-1), a_waitTag, a_waitValue, a_waitInput, a_readyNode, a_readyTag, a_readyA, a_readyB, a_readyInput, a_result, a_resultTime, a_stepsAt) (And.intro (tgx_mk (tgx_el hg)) ?_)
    intro t ht
    by_cases e : t = x
    · subst e; rw [pk_us]
    · rw [pk_un e]; exact hw t (by omega)
theorem xs_startRun (k : cf_ok c) {post : SX → Prop} (H : ∀ u ρ sa, (∀ t, t < 402 → sa t = 0) → id_I c fo fl fg (st_D 5) ρ 1 0 0 0 sa u → post u) (u : SX) (h : tg_I c fo fl u) : wpX_startRun post u := by
  obtain ⟨f_lines, f_opened, f_nodes, f_edges, f_depth, f_tags, f_readyFrom, f_readyTo, f_ranOrder, f_isRun, f_ended, f_stepCount, f_now, a_lineKind, a_lineA, a_lineB, a_lineC, a_lineD, a_openLine, a_start, a_nodeKind, a_nodeNumber, a_firstEdge, a_edgeTo, a_edgeInput, a_nextEdge, a_current, a_keptFirst, a_keptSecond, a_openIs, a_hasOther, a_tagLoop, a_tagRound, a_tagAround, a_waitNode, a_waitTag, a_waitValue, a_waitInput, a_readyNode, a_readyTag, a_readyA, a_readyB, a_readyInput, a_result, a_resultTime, a_stepsAt⟩ := u
  exact ⟨8193, xs_s1 (c := c) (fo := fo) (fl := fl) (fg := fg) k H 8192 0 rfl 8193 (by omega) (f_lines, f_opened, f_nodes, f_edges, f_depth, f_tags, f_readyFrom, f_readyTo, f_ranOrder, f_isRun, f_ended, f_stepCount, f_now, a_lineKind, a_lineA, a_lineB, a_lineC, a_lineD, a_openLine, a_start, a_nodeKind, a_nodeNumber, a_firstEdge, a_edgeTo, a_edgeInput, a_nextEdge, a_current, a_keptFirst, a_keptSecond, a_openIs, a_hasOther, a_tagLoop, a_tagRound, a_tagAround, a_waitNode, a_waitTag, a_waitValue, a_waitInput, a_readyNode, a_readyTag, a_readyA, a_readyB, a_readyInput, a_result, a_resultTime, a_stepsAt) (And.intro h fun t ht => absurd ht (Nat.not_lt_zero _))⟩
end
end
section
/-! the three orders -/
section
variable {c : CF} {fo : Int32} {fl : Nat → Int32} {fg : Bool}
variable {f_lines f_opened f_nodes f_edges f_depth f_tags f_readyFrom f_readyTo f_ranOrder f_isRun f_ended f_stepCount f_now : Int32} {a_lineKind a_lineA a_lineB a_lineC a_lineD a_openLine a_start a_nodeKind a_nodeNumber a_firstEdge a_edgeTo a_edgeInput a_nextEdge a_current a_keptFirst a_keptSecond a_openIs a_hasOther a_tagLoop a_tagRound a_tagAround a_waitNode a_waitTag a_waitValue a_waitInput a_readyNode a_readyTag a_readyA a_readyB a_readyInput a_result a_resultTime a_stepsAt : Nat → Int32}
theorem df_all {D ρ : List (Nat × Nat)} {T : Nat × Nat} (h : df_pl c (df_A c D T []) D ρ) {K x : Nat} (hr : mr c K x = true) : (∀ j, mc_sl c K x j → mc_src c K x j ∈ D) ↔ (K + 1, x) ∈ D ++ ρ := by
  rw [← h.2.2.2 K x hr]
  constructor
  · exact fun z j hj => ⟨hr, hj, Or.inl (z j hj)⟩
  · intro z j hj
    rcases (z j hj).2.2 with a | ⟨_, a⟩
    · exact a
    · cases a
theorem df_rho0 (k : cf_ok c) {D ρ : List (Nat × Nat)} {T : Nat × Nat} (h : df_pl c (df_A c D T []) D ρ) (hD : D.length ≤ 405) : ρ.length ≤ 4465 := by
  refine df_ready k (D := D) ?_ hD (List.nodup_append.mp h.1).2.1 ?_
  · intro K x hm
    obtain ⟨hx, h1 | ⟨K', h1, h2⟩⟩ := h.2.1 _ (List.mem_append_left _ hm)
    · exact absurd h1 (Nat.succ_ne_zero _)
    · have e : K = K' := Nat.succ.inj h1
      subst e
      exact ⟨h2, (df_all h h2).mpr (List.mem_append_left _ hm)⟩
  · intro U hU
    obtain ⟨hx, h1 | ⟨K, h1, h2⟩⟩ := h.2.1 U (List.mem_append_right _ hU)
    · exact absurd h1 (h.2.2.1 U hU)
    · refine ⟨K, h1, h2, (df_all h h2).mpr ?_⟩
      rw [← h1]; exact List.mem_append_right _ hU
def ru_I (c : CF) (fo : Int32) (fl : Nat → Int32) (fg : Bool) (D ρ : List (Nat × Nat)) (N rf sc : Nat) (nw : Int32) (sa : Nat → Int32) (u : SX) : Prop :=
  id_I c fo fl fg D ρ N rf sc nw sa u ∧ (∀ x, x < 5 → (0, x) ∈ D) ∧ D.length = sc + 5 ∧ N ≤ sc + 1 ∧ rf ≤ sc ∧ sc ≤ 400
theorem xs_front (k : cf_ok c) {D ρ : List (Nat × Nat)} {T : Nat × Nat} {N rf sc : Nat} {nw : Int32} {sa : Nat → Int32} {post : SX → Prop} (hsc : sc < 400) (hnw : fg = true → nw = nI (mt c T.1 T.2))
    (H : ∀ u ρ' N', (∃ s, ρ' = ρ ++ s) → ru_I c fo fl fg (T :: D) ρ' N' (rf + 1) (sc + 1) nw sa u → post u)
    (h : ru_I c fo fl fg D (T :: ρ) N rf sc nw sa (f_lines, f_opened, f_nodes, f_edges, f_depth, f_tags, f_readyFrom, f_readyTo, f_ranOrder, f_isRun, f_ended, f_stepCount, f_now, a_lineKind, a_lineA, a_lineB, a_lineC, a_lineD, a_openLine, a_start, a_nodeKind, a_nodeNumber, a_firstEdge, a_edgeTo, a_edgeInput, a_nextEdge, a_current, a_keptFirst, a_keptSecond, a_openIs, a_hasOther, a_tagLoop, a_tagRound, a_tagAround, a_waitNode, a_waitTag, a_waitValue, a_waitInput, a_readyNode, a_readyTag, a_readyA, a_readyB, a_readyInput, a_result, a_resultTime, a_stepsAt)) : wpX_happen post (f_lines, f_opened, f_nodes, f_edges, f_depth, f_tags, nI (rf + 1), f_readyTo, f_ranOrder, f_isRun, f_ended, f_stepCount, f_now, a_lineKind, a_lineA, a_lineB, a_lineC, a_lineD, a_openLine, a_start, a_nodeKind, a_nodeNumber, a_firstEdge, a_edgeTo, a_edgeInput, a_nextEdge, a_current, a_keptFirst, a_keptSecond, a_openIs, a_hasOther, a_tagLoop, a_tagRound, a_tagAround, a_waitNode, a_waitTag, a_waitValue, a_waitInput, a_readyNode, a_readyTag, a_readyA, a_readyB, a_readyInput, a_result, a_resultTime, a_stepsAt) (a_readyNode rf) (a_readyTag rf) (a_readyA rf) (a_readyB rf) (a_readyInput rf) := by
  obtain ⟨⟨h1, h2⟩, s1, s2, s3, s4, s5⟩ := h
  have hP : df_pl c (df_A c D T []) (T :: D) ρ := df_pl_c (df_pl_t h2 (List.perm_middle (a := T) (l₁ := D) (l₂ := ρ)).symm (fun U hU => List.mem_cons_of_mem _ hU)) df_A_T
  obtain ⟨z1, z2, z3, ⟨y1, y2, y3⟩, z5⟩ := rn_T (T' := T) h1
  have hd := y3 0 T rfl
  rw [Nat.add_zero] at hd
  refine xs_happen (c := c) (fo := fo) (fl := fl) (fg := fg) (sa := sa) (nw := nw) k (D := D) (T := T) (ρ := ρ) (N := N) (rf := rf + 1) (sc := sc) hP (by rw [List.length_cons]; omega) (by omega) (by omega) hnw ?_ (f_lines, f_opened, f_nodes, f_edges, f_depth, f_tags, nI (rf + 1), f_readyTo, f_ranOrder, f_isRun, f_ended, f_stepCount, f_now, a_lineKind, a_lineA, a_lineB, a_lineC, a_lineD, a_openLine, a_start, a_nodeKind, a_nodeNumber, a_firstEdge, a_edgeTo, a_edgeInput, a_nextEdge, a_current, a_keptFirst, a_keptSecond, a_openIs, a_hasOther, a_tagLoop, a_tagRound, a_tagAround, a_waitNode, a_waitTag, a_waitValue, a_waitInput, a_readyNode, a_readyTag, a_readyA, a_readyB, a_readyInput, a_result, a_resultTime, a_stepsAt) ?_ hd
  · intro u ρ' N' hN' hx g1 g2
    refine H u ρ' N' hx ⟨⟨rn_T g1, df_pl_c g2 df_A_T⟩, fun x hx => List.mem_cons_of_mem _ (s1 x hx), by rw [List.length_cons]; omega, by omega, by omega, by omega⟩
  · refine And.intro (tgx_mk (tgx_el z1)) (And.intro z2 (And.intro z3 (And.intro ⟨rfl, ?_, ?_⟩ z5)))
    · rw [y2, List.length_cons]
      exact congrArg nI (by omega)
    · intro q U hU
      have := y3 (q + 1) U hU
      rw [show rf + (q + 1) = rf + 1 + q from by omega] at this
      exact this
theorem xs_back (k : cf_ok c) {D ρ : List (Nat × Nat)} {T : Nat × Nat} {N sc : Nat} {nw : Int32} {sa : Nat → Int32} {post : SX → Prop} (hsc : sc < 400) (hnw : fg = true → nw = nI (mt c T.1 T.2))
    (H : ∀ u ρ' N', ru_I c fo fl fg (T :: D) ρ' N' 0 (sc + 1) nw sa u → post u)
    (h : ru_I c fo fl fg D (ρ ++ [T]) N 0 sc nw sa (f_lines, f_opened, f_nodes, f_edges, f_depth, f_tags, f_readyFrom, f_readyTo, f_ranOrder, f_isRun, f_ended, f_stepCount, f_now, a_lineKind, a_lineA, a_lineB, a_lineC, a_lineD, a_openLine, a_start, a_nodeKind, a_nodeNumber, a_firstEdge, a_edgeTo, a_edgeInput, a_nextEdge, a_current, a_keptFirst, a_keptSecond, a_openIs, a_hasOther, a_tagLoop, a_tagRound, a_tagAround, a_waitNode, a_waitTag, a_waitValue, a_waitInput, a_readyNode, a_readyTag, a_readyA, a_readyB, a_readyInput, a_result, a_resultTime, a_stepsAt)) : wpX_happen post (f_lines, f_opened, f_nodes, f_edges, f_depth, f_tags, f_readyFrom, nI ρ.length, f_ranOrder, f_isRun, f_ended, f_stepCount, f_now, a_lineKind, a_lineA, a_lineB, a_lineC, a_lineD, a_openLine, a_start, a_nodeKind, a_nodeNumber, a_firstEdge, a_edgeTo, a_edgeInput, a_nextEdge, a_current, a_keptFirst, a_keptSecond, a_openIs, a_hasOther, a_tagLoop, a_tagRound, a_tagAround, a_waitNode, a_waitTag, a_waitValue, a_waitInput, a_readyNode, a_readyTag, a_readyA, a_readyB, a_readyInput, a_result, a_resultTime, a_stepsAt) (a_readyNode ρ.length) (a_readyTag ρ.length) (a_readyA ρ.length) (a_readyB ρ.length) (a_readyInput ρ.length) := by
  obtain ⟨⟨h1, h2⟩, s1, s2, s3, s4, s5⟩ := h
  have hperm : ((T :: D) ++ ρ).Perm (D ++ (ρ ++ [T])) := by
    rw [← List.append_assoc]
    exact (List.perm_append_comm (l₁ := [T]) (l₂ := D ++ ρ))
  have hP : df_pl c (df_A c D T []) (T :: D) ρ := df_pl_c (df_pl_t h2 hperm (fun U hU => List.mem_append_left _ hU)) df_A_T
  obtain ⟨z1, z2, z3, ⟨y1, y2, y3⟩, z5⟩ := rn_T (T' := T) h1
  have hd := y3 ρ.length T (by rw [List.getElem?_append_right (Nat.le_refl _), Nat.sub_self]; rfl)
  rw [Nat.zero_add] at hd
  refine xs_happen (c := c) (fo := fo) (fl := fl) (fg := fg) (sa := sa) (nw := nw) k (D := D) (T := T) (ρ := ρ) (N := N) (rf := 0) (sc := sc) hP (by rw [List.length_cons]; omega) (by omega) (by omega) hnw ?_ (f_lines, f_opened, f_nodes, f_edges, f_depth, f_tags, f_readyFrom, nI ρ.length, f_ranOrder, f_isRun, f_ended, f_stepCount, f_now, a_lineKind, a_lineA, a_lineB, a_lineC, a_lineD, a_openLine, a_start, a_nodeKind, a_nodeNumber, a_firstEdge, a_edgeTo, a_edgeInput, a_nextEdge, a_current, a_keptFirst, a_keptSecond, a_openIs, a_hasOther, a_tagLoop, a_tagRound, a_tagAround, a_waitNode, a_waitTag, a_waitValue, a_waitInput, a_readyNode, a_readyTag, a_readyA, a_readyB, a_readyInput, a_result, a_resultTime, a_stepsAt) ?_ hd
  · intro u ρ' N' hN' hx g1 g2
    exact H u ρ' N' ⟨⟨rn_T g1, df_pl_c g2 df_A_T⟩, fun x hx => List.mem_cons_of_mem _ (s1 x hx), by rw [List.length_cons]; omega, by omega, by omega, by omega⟩
  · refine And.intro (tgx_mk (tgx_el z1)) (And.intro z2 (And.intro z3 (And.intro ⟨y1, by rw [Nat.zero_add], ?_⟩ z5)))
    intro q U hU
    refine y3 q U ?_
    have hq : q < ρ.length := by
      by_cases g : q < ρ.length
      · exact g
      · rw [List.getElem?_eq_none (by omega)] at hU
        cases hU
    rw [List.getElem?_append_left hq]; exact hU
theorem ru_el {D ρ : List (Nat × Nat)} {N rf sc : Nat} {nw : Int32} {sa : Nat → Int32} (h : ru_I c fo fl fg D ρ N rf sc nw sa (f_lines, f_opened, f_nodes, f_edges, f_depth, f_tags, f_readyFrom, f_readyTo, f_ranOrder, f_isRun, f_ended, f_stepCount, f_now, a_lineKind, a_lineA, a_lineB, a_lineC, a_lineD, a_openLine, a_start, a_nodeKind, a_nodeNumber, a_firstEdge, a_edgeTo, a_edgeInput, a_nextEdge, a_current, a_keptFirst, a_keptSecond, a_openIs, a_hasOther, a_tagLoop, a_tagRound, a_tagAround, a_waitNode, a_waitTag, a_waitValue, a_waitInput, a_readyNode, a_readyTag, a_readyA, a_readyB, a_readyInput, a_result, a_resultTime, a_stepsAt)) : f_readyFrom = nI rf ∧ f_readyTo = nI (rf + ρ.length) ∧ f_stepCount = nI sc ∧ f_now = nw ∧ a_stepsAt = sa := by
  obtain ⟨⟨⟨z1, z2, z3, ⟨y1, y2, y3⟩, z5, z6, z7, z8⟩, h2⟩, _⟩ := h
  exact ⟨y1, y2, z6, z7, z8⟩
def ux_rf (post : SX → Prop) (n : Nat) (x1 : Int32) (u : SX) : Prop := match u with
  | (f_lines, f_opened, f_nodes, f_edges, f_depth, f_tags, f_readyFrom, f_readyTo, f_ranOrder, f_isRun, f_ended, f_stepCount, f_now, a_lineKind, a_lineA, a_lineB, a_lineC, a_lineD, a_openLine, a_start, a_nodeKind, a_nodeNumber, a_firstEdge, a_edgeTo, a_edgeInput, a_nextEdge, a_current, a_keptFirst, a_keptSecond, a_openIs, a_hasOther, a_tagLoop, a_tagRound, a_tagAround, a_waitNode, a_waitTag, a_waitValue, a_waitInput, a_readyNode, a_readyTag, a_readyA, a_readyB, a_readyInput, a_result, a_resultTime, a_stepsAt) => wX_runFirst_2 post n x1 f_lines f_opened f_nodes f_edges f_depth f_tags f_readyFrom f_readyTo f_ranOrder f_isRun f_ended f_stepCount f_now a_lineKind a_lineA a_lineB a_lineC a_lineD a_openLine a_start a_nodeKind a_nodeNumber a_firstEdge a_edgeTo a_edgeInput a_nextEdge a_current a_keptFirst a_keptSecond a_openIs a_hasOther a_tagLoop a_tagRound a_tagAround a_waitNode a_waitTag a_waitValue a_waitInput a_readyNode a_readyTag a_readyA a_readyB a_readyInput a_result a_resultTime a_stepsAt
theorem xs_rf (k : cf_ok c) {post : SX → Prop} {sa : Nat → Int32} (H : ∀ u D ρ N rf sc, ru_I c fo fl false D ρ N rf sc 0 sa u → (ρ = [] ∨ sc = 400) → post u) :
    ∀ m i, i + m = 400 → ∀ n, m < n → ∀ u D ρ N, ru_I c fo fl false D ρ N i i 0 sa u → ux_rf post n (nI i) u := by
  intro m
  induction m with
  | zero =>
    intro i hi n hn u D ρ N h
    obtain ⟨n, rfl⟩ : ∃ n', n = n' + 1 := ⟨n - 1, by omega⟩
    have : i = 400 := by omega
    subst this
    obtain ⟨f_lines, f_opened, f_nodes, f_edges, f_depth, f_tags, f_readyFrom, f_readyTo, f_ranOrder, f_isRun, f_ended, f_stepCount, f_now, a_lineKind, a_lineA, a_lineB, a_lineC, a_lineD, a_openLine, a_start, a_nodeKind, a_nodeNumber, a_firstEdge, a_edgeTo, a_edgeInput, a_nextEdge, a_current, a_keptFirst, a_keptSecond, a_openIs, a_hasOther, a_tagLoop, a_tagRound, a_tagAround, a_waitNode, a_waitTag, a_waitValue, a_waitInput, a_readyNode, a_readyTag, a_readyA, a_readyB, a_readyInput, a_result, a_resultTime, a_stepsAt⟩ := u
    exact br_t (by decide) (H _ D ρ N _ _ h (Or.inr rfl))
  | succ m ih =>
    intro i hi n hn u D ρ N h
    obtain ⟨n, rfl⟩ : ∃ n', n = n' + 1 := ⟨n - 1, by omega⟩
    obtain ⟨f_lines, f_opened, f_nodes, f_edges, f_depth, f_tags, f_readyFrom, f_readyTo, f_ranOrder, f_isRun, f_ended, f_stepCount, f_now, a_lineKind, a_lineA, a_lineB, a_lineC, a_lineD, a_openLine, a_start, a_nodeKind, a_nodeNumber, a_firstEdge, a_edgeTo, a_edgeInput, a_nextEdge, a_current, a_keptFirst, a_keptSecond, a_openIs, a_hasOther, a_tagLoop, a_tagRound, a_tagAround, a_waitNode, a_waitTag, a_waitValue, a_waitInput, a_readyNode, a_readyTag, a_readyA, a_readyB, a_readyInput, a_result, a_resultTime, a_stepsAt⟩ := u
    obtain ⟨r1, r2, r3, r4, r5⟩ := ru_el h
    have hD : D.length = i + 5 := h.2.2.1
    have hl := df_rho0 k h.1.2 (by omega)
    refine br_f (nI_ge (b := 400) (by omega) (by decide)) ?_
    cases ρ with
    | nil => exact br_t (by rw [r1, r2]; exact nI_le (by simp) (by simp; omega)) (H _ D [] N _ _ h (Or.inl rfl))
    | cons T ρ =>
      rw [List.length_cons] at hl
      refine br_f (by rw [r1, r2]; exact nI_ge (by simp) (by simp; omega)) ?_
      have hin : vp_in f_readyFrom 5000 := by rw [r1]; exact vp_in_nI (by omega) (by decide)
      have hc : f_readyFrom.toNatClampNeg = i := by rw [r1]; exact nI_clamp (by omega)
      refine nm_r (e' := nI (i + 1)) (by rw [r1]; exact nI_1 i) (And.intro hin (And.intro hin (And.intro hin (And.intro hin (And.intro hin ?_)))))
      rw [hc]
      refine xs_front (c := c) (fo := fo) (fl := fl) (fg := false) (sc := i) (rf := i) (nw := 0) (sa := sa) k (by omega) (fun z => by cases z) ?_ h
      intro u ρ' N' _ hu
      obtain ⟨f_lines, f_opened, f_nodes, f_edges, f_depth, f_tags, f_readyFrom, f_readyTo, f_ranOrder, f_isRun, f_ended, f_stepCount, f_now, a_lineKind, a_lineA, a_lineB, a_lineC, a_lineD, a_openLine, a_start, a_nodeKind, a_nodeNumber, a_firstEdge, a_edgeTo, a_edgeInput, a_nextEdge, a_current, a_keptFirst, a_keptSecond, a_openIs, a_hasOther, a_tagLoop, a_tagRound, a_tagAround, a_waitNode, a_waitTag, a_waitValue, a_waitInput, a_readyNode, a_readyTag, a_readyA, a_readyB, a_readyInput, a_result, a_resultTime, a_stepsAt⟩ := u
      refine nm_r (e' := nI (i + 1)) (nI_1 i) ?_
      exact ih (i + 1) (by omega) n (by omega) (f_lines, f_opened, f_nodes, f_edges, f_depth, f_tags, f_readyFrom, f_readyTo, f_ranOrder, f_isRun, f_ended, f_stepCount, f_now, a_lineKind, a_lineA, a_lineB, a_lineC, a_lineD, a_openLine, a_start, a_nodeKind, a_nodeNumber, a_firstEdge, a_edgeTo, a_edgeInput, a_nextEdge, a_current, a_keptFirst, a_keptSecond, a_openIs, a_hasOther, a_tagLoop, a_tagRound, a_tagAround, a_waitNode, a_waitTag, a_waitValue, a_waitInput, a_readyNode, a_readyTag, a_readyA, a_readyB, a_readyInput, a_result, a_resultTime, a_stepsAt) (T :: D) ρ' N' hu
def ux_rl (post : SX → Prop) (n : Nat) (x1 : Int32) (u : SX) : Prop := match u with
  | (f_lines, f_opened, f_nodes, f_edges, f_depth, f_tags, f_readyFrom, f_readyTo, f_ranOrder, f_isRun, f_ended, f_stepCount, f_now, a_lineKind, a_lineA, a_lineB, a_lineC, a_lineD, a_openLine, a_start, a_nodeKind, a_nodeNumber, a_firstEdge, a_edgeTo, a_edgeInput, a_nextEdge, a_current, a_keptFirst, a_keptSecond, a_openIs, a_hasOther, a_tagLoop, a_tagRound, a_tagAround, a_waitNode, a_waitTag, a_waitValue, a_waitInput, a_readyNode, a_readyTag, a_readyA, a_readyB, a_readyInput, a_result, a_resultTime, a_stepsAt) => wX_runLast_2 post n x1 f_lines f_opened f_nodes f_edges f_depth f_tags f_readyFrom f_readyTo f_ranOrder f_isRun f_ended f_stepCount f_now a_lineKind a_lineA a_lineB a_lineC a_lineD a_openLine a_start a_nodeKind a_nodeNumber a_firstEdge a_edgeTo a_edgeInput a_nextEdge a_current a_keptFirst a_keptSecond a_openIs a_hasOther a_tagLoop a_tagRound a_tagAround a_waitNode a_waitTag a_waitValue a_waitInput a_readyNode a_readyTag a_readyA a_readyB a_readyInput a_result a_resultTime a_stepsAt
theorem xs_rl (k : cf_ok c) {post : SX → Prop} {sa : Nat → Int32} (H : ∀ u D ρ N rf sc, ru_I c fo fl false D ρ N rf sc 0 sa u → (ρ = [] ∨ sc = 400) → post u) :
    ∀ m i, i + m = 400 → ∀ n, m < n → ∀ u D ρ N, ru_I c fo fl false D ρ N 0 i 0 sa u → ux_rl post n (nI i) u := by
  intro m
  induction m with
  | zero =>
    intro i hi n hn u D ρ N h
    obtain ⟨n, rfl⟩ : ∃ n', n = n' + 1 := ⟨n - 1, by omega⟩
    have : i = 400 := by omega
    subst this
    obtain ⟨f_lines, f_opened, f_nodes, f_edges, f_depth, f_tags, f_readyFrom, f_readyTo, f_ranOrder, f_isRun, f_ended, f_stepCount, f_now, a_lineKind, a_lineA, a_lineB, a_lineC, a_lineD, a_openLine, a_start, a_nodeKind, a_nodeNumber, a_firstEdge, a_edgeTo, a_edgeInput, a_nextEdge, a_current, a_keptFirst, a_keptSecond, a_openIs, a_hasOther, a_tagLoop, a_tagRound, a_tagAround, a_waitNode, a_waitTag, a_waitValue, a_waitInput, a_readyNode, a_readyTag, a_readyA, a_readyB, a_readyInput, a_result, a_resultTime, a_stepsAt⟩ := u
    exact br_t (by decide) (H _ D ρ N _ _ h (Or.inr rfl))
  | succ m ih =>
    intro i hi n hn u D ρ N h
    obtain ⟨n, rfl⟩ : ∃ n', n = n' + 1 := ⟨n - 1, by omega⟩
    obtain ⟨f_lines, f_opened, f_nodes, f_edges, f_depth, f_tags, f_readyFrom, f_readyTo, f_ranOrder, f_isRun, f_ended, f_stepCount, f_now, a_lineKind, a_lineA, a_lineB, a_lineC, a_lineD, a_openLine, a_start, a_nodeKind, a_nodeNumber, a_firstEdge, a_edgeTo, a_edgeInput, a_nextEdge, a_current, a_keptFirst, a_keptSecond, a_openIs, a_hasOther, a_tagLoop, a_tagRound, a_tagAround, a_waitNode, a_waitTag, a_waitValue, a_waitInput, a_readyNode, a_readyTag, a_readyA, a_readyB, a_readyInput, a_result, a_resultTime, a_stepsAt⟩ := u
    obtain ⟨r1, r2, r3, r4, r5⟩ := ru_el h
    have hD : D.length = i + 5 := h.2.2.1
    have hl := df_rho0 k h.1.2 (by omega)
    refine br_f (nI_ge (b := 400) (by omega) (by decide)) ?_
    rcases List.eq_nil_or_concat ρ with e | ⟨ρ', T, e⟩
    · subst e
      exact br_t (by rw [r2]; decide) (H _ D [] N _ _ h (Or.inl rfl))
    · rw [List.concat_eq_append] at e
      subst e
      rw [List.length_append, List.length_singleton] at hl
      rw [List.length_append, List.length_singleton, Nat.zero_add] at r2
      refine br_f (by rw [r2]; exact nI_nle (by omega) (by omega)) ?_
      have hin : vp_in (nI ρ'.length) 5000 := vp_in_nI (by omega) (by decide)
      have hc : (nI ρ'.length).toNatClampNeg = ρ'.length := nI_clamp (by omega)
      refine nm_r (e' := nI ρ'.length) (by rw [r2, nI_pred]) (And.intro hin (And.intro hin (And.intro hin (And.intro hin (And.intro hin ?_)))))
      rw [hc]
      refine xs_back (c := c) (fo := fo) (fl := fl) (fg := false) (sc := i) (nw := 0) (sa := sa) k (by omega) (fun z => by cases z) ?_ h
      intro u ρ' N' hu
      obtain ⟨f_lines, f_opened, f_nodes, f_edges, f_depth, f_tags, f_readyFrom, f_readyTo, f_ranOrder, f_isRun, f_ended, f_stepCount, f_now, a_lineKind, a_lineA, a_lineB, a_lineC, a_lineD, a_openLine, a_start, a_nodeKind, a_nodeNumber, a_firstEdge, a_edgeTo, a_edgeInput, a_nextEdge, a_current, a_keptFirst, a_keptSecond, a_openIs, a_hasOther, a_tagLoop, a_tagRound, a_tagAround, a_waitNode, a_waitTag, a_waitValue, a_waitInput, a_readyNode, a_readyTag, a_readyA, a_readyB, a_readyInput, a_result, a_resultTime, a_stepsAt⟩ := u
      refine nm_r (e' := nI (i + 1)) (nI_1 i) ?_
      exact ih (i + 1) (by omega) n (by omega) (f_lines, f_opened, f_nodes, f_edges, f_depth, f_tags, f_readyFrom, f_readyTo, f_ranOrder, f_isRun, f_ended, f_stepCount, f_now, a_lineKind, a_lineA, a_lineB, a_lineC, a_lineD, a_openLine, a_start, a_nodeKind, a_nodeNumber, a_firstEdge, a_edgeTo, a_edgeInput, a_nextEdge, a_current, a_keptFirst, a_keptSecond, a_openIs, a_hasOther, a_tagLoop, a_tagRound, a_tagAround, a_waitNode, a_waitTag, a_waitValue, a_waitInput, a_readyNode, a_readyTag, a_readyA, a_readyB, a_readyInput, a_result, a_resultTime, a_stepsAt) (T :: D) ρ' N' hu
end
end
section
/-! the order by times -/
section
variable {c : CF} {fo : Int32} {fl : Nat → Int32}
variable {f_lines f_opened f_nodes f_edges f_depth f_tags f_readyFrom f_readyTo f_ranOrder f_isRun f_ended f_stepCount f_now : Int32} {a_lineKind a_lineA a_lineB a_lineC a_lineD a_openLine a_start a_nodeKind a_nodeNumber a_firstEdge a_edgeTo a_edgeInput a_nextEdge a_current a_keptFirst a_keptSecond a_openIs a_hasOther a_tagLoop a_tagRound a_tagAround a_waitNode a_waitTag a_waitValue a_waitInput a_readyNode a_readyTag a_readyA a_readyB a_readyInput a_result a_resultTime a_stepsAt : Nat → Int32}
theorem mc_time (k : cf_ok c) {K x : Nat} (hr : mr c K x = true) : (∀ j, mc_sl c K x j → mt c (mc_src c K x j).1 (mc_src c K x j).2 < mt c (K + 1) x) ∧ ∃ j, mc_sl c K x j ∧ mt c (K + 1) x = mt c (mc_src c K x j).1 (mc_src c K x j).2 + 1 := by
  have hm : ∀ j, mc_sl c K x j → mt c (mc_src c K x j).1 (mc_src c K x j).2 = mt c K (mc_sv c K x j) := fun j hj => (mc_M1 k (mc_svl k hj) K).2.2.2.1
  have ht := mt_s (c := c) K x
  rw [if_pos hr] at ht
  have hx := mc_rx k hr
  have hone : ∀ e y, cf_ek c (mi c K) (mf c K) = e → mt c (K + 1) x = mt c K y + 1 → (∀ j, mc_sl c K x j → mc_sv c K x j = y) → (∀ j, mc_sl c K x j → mt c (mc_src c K x j).1 (mc_src c K x j).2 < mt c (K + 1) x) ∧ ∃ j, mc_sl c K x j ∧ mt c (K + 1) x = mt c (mc_src c K x j).1 (mc_src c K x j).2 + 1 := by
    intro e y he h1 h2
    obtain ⟨j, hj, _⟩ := mc_sl_x k hr
    refine ⟨fun j hj => ?_, j, hj, ?_⟩
    · rw [hm j hj, h2 j hj]; omega
    · rw [hm j hj, h2 j hj]; exact h1
  have htwo : ∀ y z, mc_tw c K → mt c (K + 1) x = max (mt c K y) (mt c K z) + 1 → mc_sv c K x 0 = y → mc_sv c K x 1 = z → (∀ j, mc_sl c K x j → mt c (mc_src c K x j).1 (mc_src c K x j).2 < mt c (K + 1) x) ∧ ∃ j, mc_sl c K x j ∧ mt c (K + 1) x = mt c (mc_src c K x j).1 (mc_src c K x j).2 + 1 := by
    intro y z tw h1 h2 h3
    have s0 := mc_tw_s k tw hr (j := 0) (by omega)
    have s1 := mc_tw_s k tw hr (j := 1) (by omega)
    refine ⟨fun j hj => ?_, ?_⟩
    · have := mc_tw_l tw hj
      rcases (by omega : j = 0 ∨ j = 1) with rfl | rfl
      · rw [hm 0 s0, h2]; omega
      · rw [hm 1 s1, h3]; omega
    · rcases Nat.le_total (mt c K y) (mt c K z) with g | g
      · exact ⟨1, s1, by rw [hm 1 s1, h3]; omega⟩
      · exact ⟨0, s0, by rw [hm 0 s0, h2]; omega⟩
  rcases cf_cases k (mc_pos k K) with ⟨e, _⟩ | ⟨e, _⟩ | ⟨e, _⟩ | ⟨e, _⟩ | ⟨e, _⟩ | ⟨e, _⟩ | ⟨e, _⟩ | ⟨e, _⟩ | ⟨e, _⟩ | ⟨e, hn', _⟩ <;> simp only [cf_nt, e] at ht
  · exact hone 0 4 e ht (fun j _ => by simp only [mc_sv, cf_sv, e])
  · exact htwo _ _ (Or.inl e) ht (by simp only [mc_sv, cf_sv, e, if_true]) (by simp only [mc_sv, cf_sv, e]; rfl)
  · exact htwo _ _ (Or.inr (Or.inl e)) ht (by simp only [mc_sv, cf_sv, e, if_true]) (by simp only [mc_sv, cf_sv, e]; rfl)
  · rw [mr, cf_fr_e e] at hr; cases hr
  · exact hone 4 x e ht (fun j _ => by simp only [mc_sv, cf_sv, e])
  · exact htwo _ _ (Or.inr (Or.inr e)) ht (by simp only [mc_sv, cf_sv, e, if_true]) (by simp only [mc_sv, cf_sv, e]; rfl)
  · exact hone 6 x e ht (fun j _ => by simp only [mc_sv, cf_sv, e])
  · exact hone 7 x e ht (fun j _ => by simp only [mc_sv, cf_sv, e])
  · exact hone 8 x e ht (fun j _ => by simp only [mc_sv, cf_sv, e])
  · have := mc_ni k hr
    omega
def lv_G (c : CF) (D : List (Nat × Nat)) (t : Nat) : Prop := ∀ K x, mc_real c K x → ((K, x) ∈ D ↔ mt c K x < t)
def lv_S (c : CF) (t : Nat) (sa : Nat → Int32) : Prop := sa 0 = 0 ∧ (∀ s, t ≤ s → s < 402 → sa s = 0) ∧
  (∀ s, 1 ≤ s → s < t → ∃ l : List (Nat × Nat), l.Nodup ∧ (∀ T, T ∈ l ↔ mc_real c T.1 T.2 ∧ mt c T.1 T.2 = s) ∧ sa s = nI l.length)
theorem lv_src (k : cf_ok c) {K x j : Nat} (hj : mc_sl c K x j) : mc_real c (mc_src c K x j).1 (mc_src c K x j).2 := (mc_M1 k (mc_svl k hj) K).2.1
/-- what is ready at a time is just what has this time -/
theorem lv_rho (k : cf_ok c) {D ρ : List (Nat × Nat)} {t : Nat} (ht : 1 ≤ t) (h : df_pl c (df_A c D (0, 0) []) D ρ) (g : lv_G c D t) (T : Nat × Nat) : T ∈ ρ ↔ mc_real c T.1 T.2 ∧ mt c T.1 T.2 = t := by
  constructor
  · intro hT
    have hr := h.2.1 T (List.mem_append_right _ hT)
    refine ⟨hr, ?_⟩
    have hnD : T ∉ D := fun z => (List.nodup_append.mp h.1).2.2 T z T hT rfl
    have h1 : ¬ mt c T.1 T.2 < t := fun z => hnD ((g T.1 T.2 hr).mpr z)
    obtain ⟨hx, h0 | ⟨K, h2, h3⟩⟩ := hr
    · exact absurd h0 (h.2.2.1 T hT)
    · have h4 := (df_all h h3).mpr (by rw [← h2]; exact List.mem_append_right _ hT)
      obtain ⟨_, j, hj, h5⟩ := mc_time k h3
      have h6 := (g _ _ (lv_src k hj)).mp (h4 j hj)
      rw [h2] at h1 ⊢
      omega
  · rintro ⟨hr, hm⟩
    have hnD : T ∉ D := fun z => by have := (g T.1 T.2 hr).mp z; omega
    obtain ⟨hx, h0 | ⟨K, h2, h3⟩⟩ := hr
    · rw [h0] at hm
      have : mt c 0 T.2 = 0 := rfl
      omega
    · have h4 : (K + 1, T.2) ∈ D ++ ρ := (df_all h h3).mp (by
        intro j hj
        refine (g _ _ (lv_src k hj)).mpr ?_
        have := (mc_time k h3).1 j hj
        rw [h2] at hm
        omega)
      rw [← h2] at h4
      rcases List.mem_append.mp h4 with z | z
      · exact absurd z hnD
      · exact z
def lv_I (c : CF) (D ρ : List (Nat × Nat)) (r t : Nat) : Prop := (∀ K x, mc_real c K x → (mt c K x ≤ t ↔ (K, x) ∈ D ∨ (K, x) ∈ ρ.take r)) ∧ (∀ T, T ∈ ρ.take r → mt c T.1 T.2 = t)
def lv_O (c : CF) (D ρ : List (Nat × Nat)) (sc t : Nat) (sa : Nat → Int32) : Prop := (lv_G c D t ∧ lv_S c t sa ∧ t ≤ sc + 1) ∨ (sc = 400 ∧ ρ ≠ [])
def ux_ri (post : SX → Prop) (n0 : Nat) (x1 x2 : Int32) (n : Nat) (x3 : Int32) (u : SX) : Prop := match u with
  | (f_lines, f_opened, f_nodes, f_edges, f_depth, f_tags, f_readyFrom, f_readyTo, f_ranOrder, f_isRun, f_ended, f_stepCount, f_now, a_lineKind, a_lineA, a_lineB, a_lineC, a_lineD, a_openLine, a_start, a_nodeKind, a_nodeNumber, a_firstEdge, a_edgeTo, a_edgeInput, a_nextEdge, a_current, a_keptFirst, a_keptSecond, a_openIs, a_hasOther, a_tagLoop, a_tagRound, a_tagAround, a_waitNode, a_waitTag, a_waitValue, a_waitInput, a_readyNode, a_readyTag, a_readyA, a_readyB, a_readyInput, a_result, a_resultTime, a_stepsAt) => wX_runTimes_57 post (wX_runTimes_2 post n0) x1 x2 n x3 f_lines f_opened f_nodes f_edges f_depth f_tags f_readyFrom f_readyTo f_ranOrder f_isRun f_ended f_stepCount f_now a_lineKind a_lineA a_lineB a_lineC a_lineD a_openLine a_start a_nodeKind a_nodeNumber a_firstEdge a_edgeTo a_edgeInput a_nextEdge a_current a_keptFirst a_keptSecond a_openIs a_hasOther a_tagLoop a_tagRound a_tagAround a_waitNode a_waitTag a_waitValue a_waitInput a_readyNode a_readyTag a_readyA a_readyB a_readyInput a_result a_resultTime a_stepsAt
def ux_rt (post : SX → Prop) (n : Nat) (x1 : Int32) (u : SX) : Prop := match u with
  | (f_lines, f_opened, f_nodes, f_edges, f_depth, f_tags, f_readyFrom, f_readyTo, f_ranOrder, f_isRun, f_ended, f_stepCount, f_now, a_lineKind, a_lineA, a_lineB, a_lineC, a_lineD, a_openLine, a_start, a_nodeKind, a_nodeNumber, a_firstEdge, a_edgeTo, a_edgeInput, a_nextEdge, a_current, a_keptFirst, a_keptSecond, a_openIs, a_hasOther, a_tagLoop, a_tagRound, a_tagAround, a_waitNode, a_waitTag, a_waitValue, a_waitInput, a_readyNode, a_readyTag, a_readyA, a_readyB, a_readyInput, a_result, a_resultTime, a_stepsAt) => wX_runTimes_2 post n x1 f_lines f_opened f_nodes f_edges f_depth f_tags f_readyFrom f_readyTo f_ranOrder f_isRun f_ended f_stepCount f_now a_lineKind a_lineA a_lineB a_lineC a_lineD a_openLine a_start a_nodeKind a_nodeNumber a_firstEdge a_edgeTo a_edgeInput a_nextEdge a_current a_keptFirst a_keptSecond a_openIs a_hasOther a_tagLoop a_tagRound a_tagAround a_waitNode a_waitTag a_waitValue a_waitInput a_readyNode a_readyTag a_readyA a_readyB a_readyInput a_result a_resultTime a_stepsAt
theorem xs_ri (k : cf_ok c) {post : SX → Prop} {n0 t : Nat} {sa : Nat → Int32} (ht : 1 ≤ t) (hS : lv_S c (t + 1) sa)
    (H : ∀ u D ρ N rf sc nw, ru_I c fo fl true D ρ N rf sc nw sa u → lv_O c D ρ sc (t + 1) sa → ux_rt post n0 (nI (t + 1)) u) :
    ∀ r n, r < n → ∀ u D ρ N rf sc, r ≤ ρ.length → ru_I c fo fl true D ρ N rf sc (nI t) sa u → lv_I c D ρ r t → (t ≤ sc ∨ (t ≤ sc + 1 ∧ 0 < r ∧ sc < 400)) → ux_ri post n0 (nI t) (nI (rf + r)) n (nI rf) u := by
  intro r
  induction r with
  | zero =>
    intro n hn u D ρ N rf sc hr h hI hsc
    obtain ⟨n, rfl⟩ : ∃ n', n = n' + 1 := ⟨n - 1, by omega⟩
    obtain ⟨f_lines, f_opened, f_nodes, f_edges, f_depth, f_tags, f_readyFrom, f_readyTo, f_ranOrder, f_isRun, f_ended, f_stepCount, f_now, a_lineKind, a_lineA, a_lineB, a_lineC, a_lineD, a_openLine, a_start, a_nodeKind, a_nodeNumber, a_firstEdge, a_edgeTo, a_edgeInput, a_nextEdge, a_current, a_keptFirst, a_keptSecond, a_openIs, a_hasOther, a_tagLoop, a_tagRound, a_tagAround, a_waitNode, a_waitTag, a_waitValue, a_waitInput, a_readyNode, a_readyTag, a_readyA, a_readyB, a_readyInput, a_result, a_resultTime, a_stepsAt⟩ := u
    have h6 := h.2.2.2.2
    refine br_t (nI_le (by omega) (by omega)) (nm_r (e' := nI (t + 1)) (nI_1 t) ?_)
    refine H (f_lines, f_opened, f_nodes, f_edges, f_depth, f_tags, f_readyFrom, f_readyTo, f_ranOrder, f_isRun, f_ended, f_stepCount, f_now, a_lineKind, a_lineA, a_lineB, a_lineC, a_lineD, a_openLine, a_start, a_nodeKind, a_nodeNumber, a_firstEdge, a_edgeTo, a_edgeInput, a_nextEdge, a_current, a_keptFirst, a_keptSecond, a_openIs, a_hasOther, a_tagLoop, a_tagRound, a_tagAround, a_waitNode, a_waitTag, a_waitValue, a_waitInput, a_readyNode, a_readyTag, a_readyA, a_readyB, a_readyInput, a_result, a_resultTime, a_stepsAt) D ρ N rf sc _ h (Or.inl ⟨?_, hS, by omega⟩)
    intro K x hx
    have := hI.1 K x hx
    rw [List.take_zero] at this
    constructor
    · intro z
      have := this.mpr (Or.inl z)
      omega
    · intro z
      rcases this.mp (by omega) with a | a
      · exact a
      · cases a
  | succ r ih =>
    intro n hn u D ρ N rf sc hr h hI hsc
    obtain ⟨n, rfl⟩ : ∃ n', n = n' + 1 := ⟨n - 1, by omega⟩
    obtain ⟨f_lines, f_opened, f_nodes, f_edges, f_depth, f_tags, f_readyFrom, f_readyTo, f_ranOrder, f_isRun, f_ended, f_stepCount, f_now, a_lineKind, a_lineA, a_lineB, a_lineC, a_lineD, a_openLine, a_start, a_nodeKind, a_nodeNumber, a_firstEdge, a_edgeTo, a_edgeInput, a_nextEdge, a_current, a_keptFirst, a_keptSecond, a_openIs, a_hasOther, a_tagLoop, a_tagRound, a_tagAround, a_waitNode, a_waitTag, a_waitValue, a_waitInput, a_readyNode, a_readyTag, a_readyA, a_readyB, a_readyInput, a_result, a_resultTime, a_stepsAt⟩ := u
    obtain ⟨r1, r2, r3, r4, r5⟩ := ru_el h
    have h6 := h.2.2.2.2
    have hD : D.length = sc + 5 := h.2.2.1
    have hl := df_rho0 k h.1.2 (by omega)
    refine br_f (nI_ge (by omega) (by omega)) ?_
    cases ρ with
    | nil => simp at hr
    | cons T ρ =>
      by_cases h4 : sc = 400
      · refine br_t (by rw [r3]; exact nI_le (a := 400) (by omega) (by omega)) (nm_r (e' := nI (t + 1)) (nI_1 t) ?_)
        exact H (f_lines, f_opened, f_nodes, f_edges, f_depth, f_tags, f_readyFrom, f_readyTo, f_ranOrder, f_isRun, f_ended, f_stepCount, f_now, a_lineKind, a_lineA, a_lineB, a_lineC, a_lineD, a_openLine, a_start, a_nodeKind, a_nodeNumber, a_firstEdge, a_edgeTo, a_edgeInput, a_nextEdge, a_current, a_keptFirst, a_keptSecond, a_openIs, a_hasOther, a_tagLoop, a_tagRound, a_tagAround, a_waitNode, a_waitTag, a_waitValue, a_waitInput, a_readyNode, a_readyTag, a_readyA, a_readyB, a_readyInput, a_result, a_resultTime, a_stepsAt) D (T :: ρ) N rf sc _ h (Or.inr ⟨h4, fun z => nomatch z⟩)
      · refine br_f (by rw [r3]; exact nI_ge (b := 400) (by omega) (by decide)) ?_
        have hin : vp_in (nI rf) 5000 := vp_in_nI (by omega) (by decide)
        have hc : (nI rf).toNatClampNeg = rf := nI_clamp (by omega)
        refine nm_r (e' := nI (rf + 1)) (by rw [r1]; exact nI_1 rf) (And.intro hin (And.intro hin (And.intro hin (And.intro hin (And.intro hin ?_)))))
        rw [hc]
        rw [List.length_cons] at hr
        have hTt : mt c T.1 T.2 = t := hI.2 T (by rw [List.take_succ_cons]; exact List.mem_cons_self ..)
        refine xs_front (c := c) (fo := fo) (fl := fl) (fg := true) (sc := sc) (rf := rf) (nw := nI t) (sa := sa) k (by omega) (fun _ => by rw [hTt]) ?_ h
        rintro u ρ' N' ⟨s, rfl⟩ hu
        obtain ⟨f_lines, f_opened, f_nodes, f_edges, f_depth, f_tags, f_readyFrom, f_readyTo, f_ranOrder, f_isRun, f_ended, f_stepCount, f_now, a_lineKind, a_lineA, a_lineB, a_lineC, a_lineD, a_openLine, a_start, a_nodeKind, a_nodeNumber, a_firstEdge, a_edgeTo, a_edgeInput, a_nextEdge, a_current, a_keptFirst, a_keptSecond, a_openIs, a_hasOther, a_tagLoop, a_tagRound, a_tagAround, a_waitNode, a_waitTag, a_waitValue, a_waitInput, a_readyNode, a_readyTag, a_readyA, a_readyB, a_readyInput, a_result, a_resultTime, a_stepsAt⟩ := u
        refine nm_r (e' := nI (rf + 1)) (nI_1 rf) ?_
        have hg := ih n (by omega) (f_lines, f_opened, f_nodes, f_edges, f_depth, f_tags, f_readyFrom, f_readyTo, f_ranOrder, f_isRun, f_ended, f_stepCount, f_now, a_lineKind, a_lineA, a_lineB, a_lineC, a_lineD, a_openLine, a_start, a_nodeKind, a_nodeNumber, a_firstEdge, a_edgeTo, a_edgeInput, a_nextEdge, a_current, a_keptFirst, a_keptSecond, a_openIs, a_hasOther, a_tagLoop, a_tagRound, a_tagAround, a_waitNode, a_waitTag, a_waitValue, a_waitInput, a_readyNode, a_readyTag, a_readyA, a_readyB, a_readyInput, a_result, a_resultTime, a_stepsAt) (T :: D) (ρ ++ s) N' (rf + 1) (sc + 1) (by rw [List.length_append]; omega) hu ?_ (Or.inl (by omega))
        · rw [show rf + 1 + r = rf + (r + 1) from by omega] at hg
          exact hg
        · have htk : (ρ ++ s).take r = ρ.take r := List.take_append_of_le_length (by omega)
          refine ⟨fun K x hx => ?_, fun U hU => ?_⟩
          · rw [htk, hI.1 K x hx, List.take_succ_cons, List.mem_cons, List.mem_cons]
            constructor
            · rintro (a | a | a)
              · exact Or.inl (Or.inr a)
              · exact Or.inl (Or.inl a)
              · exact Or.inr a
            · rintro ((a | a) | a)
              · exact Or.inr (Or.inl a)
              · exact Or.inl a
              · exact Or.inr (Or.inr a)
          · rw [htk] at hU
            exact hI.2 U (by rw [List.take_succ_cons]; exact List.mem_cons_of_mem _ hU)
theorem xs_rt (k : cf_ok c) {post : SX → Prop} (H : ∀ u D ρ N rf sc nw sa, ru_I c fo fl true D ρ N rf sc nw sa u → (ρ = [] ∨ sc = 400) → (ρ = [] → ∃ t, lv_G c D t ∧ lv_S c t sa) → post u) :
    ∀ m t, t + m = 401 → 1 ≤ t → ∀ n, m < n → ∀ u D ρ N rf sc nw sa, ru_I c fo fl true D ρ N rf sc nw sa u → lv_O c D ρ sc t sa → ux_rt post n (nI t) u := by
  intro m
  induction m with
  | zero =>
    intro t ht h1 n hn u D ρ N rf sc nw sa h hO
    obtain ⟨n, rfl⟩ : ∃ n', n = n' + 1 := ⟨n - 1, by omega⟩
    obtain ⟨f_lines, f_opened, f_nodes, f_edges, f_depth, f_tags, f_readyFrom, f_readyTo, f_ranOrder, f_isRun, f_ended, f_stepCount, f_now, a_lineKind, a_lineA, a_lineB, a_lineC, a_lineD, a_openLine, a_start, a_nodeKind, a_nodeNumber, a_firstEdge, a_edgeTo, a_edgeInput, a_nextEdge, a_current, a_keptFirst, a_keptSecond, a_openIs, a_hasOther, a_tagLoop, a_tagRound, a_tagAround, a_waitNode, a_waitTag, a_waitValue, a_waitInput, a_readyNode, a_readyTag, a_readyA, a_readyB, a_readyInput, a_result, a_resultTime, a_stepsAt⟩ := u
    have h6 := h.2.2.2.2
    refine br_t (nI_lt (a := 400) (by omega) (by omega)) (H _ D ρ N rf sc nw sa h ?_ ?_)
    · rcases hO with ⟨_, _, z⟩ | ⟨z, _⟩
      · exact Or.inr (by omega)
      · exact Or.inr z
    · intro z
      rcases hO with ⟨a, b, _⟩ | ⟨_, a⟩
      · exact ⟨t, a, b⟩
      · exact absurd z a
  | succ m ih =>
    intro t ht h1 n hn u D ρ N rf sc nw sa h hO
    obtain ⟨n, rfl⟩ : ∃ n', n = n' + 1 := ⟨n - 1, by omega⟩
    obtain ⟨f_lines, f_opened, f_nodes, f_edges, f_depth, f_tags, f_readyFrom, f_readyTo, f_ranOrder, f_isRun, f_ended, f_stepCount, f_now, a_lineKind, a_lineA, a_lineB, a_lineC, a_lineD, a_openLine, a_start, a_nodeKind, a_nodeNumber, a_firstEdge, a_edgeTo, a_edgeInput, a_nextEdge, a_current, a_keptFirst, a_keptSecond, a_openIs, a_hasOther, a_tagLoop, a_tagRound, a_tagAround, a_waitNode, a_waitTag, a_waitValue, a_waitInput, a_readyNode, a_readyTag, a_readyA, a_readyB, a_readyInput, a_result, a_resultTime, a_stepsAt⟩ := u
    obtain ⟨r1, r2, r3, r4, r5⟩ := ru_el h
    have h6 := h.2.2.2.2
    have hD : D.length = sc + 5 := h.2.2.1
    have hl := df_rho0 k h.1.2 (by omega)
    refine br_f (nI_nlt (a := 400) (by omega) (by decide)) ?_
    by_cases he : ρ = []
    · subst he
      refine br_t (by rw [r1, r2]; exact nI_le (by simp) (by simp; omega)) (H _ D [] N rf sc nw sa h (Or.inl rfl) fun z => ?_)
      rcases hO with ⟨a, b, _⟩ | ⟨_, a⟩
      · exact ⟨t, a, b⟩
      · exact absurd z a
    · have hpos : 0 < ρ.length := by
        cases ρ with
        | nil => exact absurd rfl he
        | cons a l => rw [List.length_cons]; omega
      refine br_f (by rw [r1, r2]; exact nI_ge (by omega) (by omega)) ?_
      by_cases h4 : sc = 400
      · exact br_t (by rw [r3]; exact nI_le (a := 400) (by omega) (by omega)) (H _ D ρ N rf sc nw sa h (Or.inr h4) fun z => absurd z he)
      · refine br_f (by rw [r3]; exact nI_ge (b := 400) (by omega) (by decide)) ?_
        have hin : vp_in (nI t) 402 := vp_in_nI (by omega) (by decide)
        have hc : (nI t).toNatClampNeg = t := nI_clamp (by omega)
        rcases hO with ⟨g1, g2, g3⟩ | ⟨z, _⟩
        · have hrho := lv_rho k h1 h.1.2 g1
          refine And.intro hin (nm_r (e' := upd a_stepsAt t (nI ρ.length)) ?_ ⟨ρ.length + 1, ?_⟩)
          · rw [hc, r1, r2, pk_sub (by omega), Nat.add_sub_cancel_left]
          · have hS : lv_S c (t + 1) (upd a_stepsAt t (nI ρ.length)) := by
              rw [r5]
              refine ⟨?_, fun s hs hs2 => ?_, fun s hs hs2 => ?_⟩
              · rw [pk_un (by omega)]; exact g2.1
              · rw [pk_un (by omega)]; exact g2.2.1 s (by omega) hs2
              · by_cases e : s = t
                · subst e
                  rw [pk_us]
                  exact ⟨ρ, (List.nodup_append.mp h.1.2.1).2.1, hrho, rfl⟩
                · rw [pk_un e]
                  exact g2.2.2 s hs (by omega)
            rw [r2]
            show ux_ri post n (nI t) (nI (rf + ρ.length)) (ρ.length + 1) f_readyFrom (f_lines, f_opened, f_nodes, f_edges, f_depth, f_tags, f_readyFrom, nI (rf + ρ.length), f_ranOrder, f_isRun, f_ended, f_stepCount, nI t, a_lineKind, a_lineA, a_lineB, a_lineC, a_lineD, a_openLine, a_start, a_nodeKind, a_nodeNumber, a_firstEdge, a_edgeTo, a_edgeInput, a_nextEdge, a_current, a_keptFirst, a_keptSecond, a_openIs, a_hasOther, a_tagLoop, a_tagRound, a_tagAround, a_waitNode, a_waitTag, a_waitValue, a_waitInput, a_readyNode, a_readyTag, a_readyA, a_readyB, a_readyInput, a_result, a_resultTime, upd a_stepsAt t (nI ρ.length))
            rw [r1]
            refine xs_ri (c := c) (fo := fo) (fl := fl) k h1 hS ?_ ρ.length (ρ.length + 1) (by omega) (f_lines, f_opened, f_nodes, f_edges, f_depth, f_tags, nI rf, nI (rf + ρ.length), f_ranOrder, f_isRun, f_ended, f_stepCount, nI t, a_lineKind, a_lineA, a_lineB, a_lineC, a_lineD, a_openLine, a_start, a_nodeKind, a_nodeNumber, a_firstEdge, a_edgeTo, a_edgeInput, a_nextEdge, a_current, a_keptFirst, a_keptSecond, a_openIs, a_hasOther, a_tagLoop, a_tagRound, a_tagAround, a_waitNode, a_waitTag, a_waitValue, a_waitInput, a_readyNode, a_readyTag, a_readyA, a_readyB, a_readyInput, a_result, a_resultTime, upd a_stepsAt t (nI ρ.length)) D ρ N rf sc (Nat.le_refl _) ?_ ?_ (Or.inr ⟨g3, hpos, by omega⟩)
            · intro u D ρ N rf sc nw hu hO
              exact ih (t + 1) (by omega) (by omega) n (by omega) u D ρ N rf sc nw _ hu hO
            · obtain ⟨⟨⟨z1, z2, z3, ⟨y1, y2, y3⟩, z5, z6, z7, z8⟩, q2⟩, q3⟩ := h
              exact ⟨⟨And.intro (tgx_mk (tgx_el z1)) (And.intro z2 (And.intro z3 (And.intro ⟨rfl, rfl, y3⟩ (And.intro z5 ⟨z6, rfl, rfl⟩)))), q2⟩, q3⟩
            · refine ⟨fun K x hx => ?_, fun T hT => ?_⟩
              · rw [List.take_length, hrho (K, x), g1 K x hx]
                constructor
                · intro z
                  by_cases e : mt c K x = t
                  · exact Or.inr ⟨hx, e⟩
                  · exact Or.inl (by omega)
                · rintro (z | ⟨_, z⟩)
                  · omega
                  · simp only [] at z; omega
              · rw [List.take_length] at hT
                exact ((hrho T).mp hT).2
        · exact absurd z h4
end
end
section
/-! what a run finds -/
def xo_I (c : CF) (ord ended sc : Int32) (res rsT sa : Nat → Int32) : Prop :=
  (ended = 0 ∧ ∃ K, cf_n c ≤ mi c K ∧ mc_cnt c K ≤ 400 ∧ (∀ x, x < 5 → res x = mv c K x) ∧ (ord = 2 → sc = nI (mc_cnt c K) ∧ (∀ x, x < 5 → rsT x = nI (mt c K x)) ∧ ∀ s, s < 402 → sa s = nI (mc_ct c K s))) ∨
  (ended = 1 ∧ ∃ K, 400 < mc_cnt c K)
def ro_I (c : CF) (ord ended sc : Int32) (res rsT sa : Nat → Int32) : Prop := (cf_st c (cf_n c) ≠ [] ∧ ended = 2) ∨ (cf_st c (cf_n c) = [] ∧ xo_I c ord ended sc res rsT sa)
section
variable {c : CF} {fo : Int32} {fl : Nat → Int32} {fg : Bool}
variable {f_lines f_opened f_nodes f_edges f_depth f_tags f_readyFrom f_readyTo f_ranOrder f_isRun f_ended f_stepCount f_now : Int32} {a_lineKind a_lineA a_lineB a_lineC a_lineD a_openLine a_start a_nodeKind a_nodeNumber a_firstEdge a_edgeTo a_edgeInput a_nextEdge a_current a_keptFirst a_keptSecond a_openIs a_hasOther a_tagLoop a_tagRound a_tagAround a_waitNode a_waitTag a_waitValue a_waitInput a_readyNode a_readyTag a_readyA a_readyB a_readyInput a_result a_resultTime a_stepsAt : Nat → Int32}
theorem fl_bd : ∀ l : List (Nat × Nat), ∃ N, ∀ T, T ∈ l → T.1 ≤ N
  | [] => ⟨0, fun _ h => nomatch h⟩
  | a :: l => by
    obtain ⟨N, h⟩ := fl_bd l
    refine ⟨N + a.1, fun T hT => ?_⟩
    rcases List.mem_cons.mp hT with rfl | z
    · omega
    · have := h T z
      omega
theorem fl_in (k : cf_ok c) {T : Nat × Nat} {N : Nat} (hr : mc_real c T.1 T.2) (h : ∀ K, T.1 = K + 1 → mr c K T.2 = true → K < N) : T ∈ mc_fl c N ++ st_D 5 := by
  obtain ⟨T1, x⟩ := T
  obtain ⟨hx, h0 | ⟨K, h1, h2⟩⟩ := hr
  · refine List.mem_append_right _ ((st_D_m T1 x 5).mpr ⟨h0, hx⟩)
  · exact List.mem_append_left _ ((mc_fl_m k N).mpr ⟨K, h K h1 h2, h1, h2⟩)
theorem ou_tired (k : cf_ok c) {D ρ : List (Nat × Nat)} {N rf sc : Nat} {nw : Int32} {sa : Nat → Int32} {u : SX} (h : ru_I c fo fl fg D ρ N rf sc nw sa u) (hr : ρ ≠ []) (hs : sc = 400) : ∃ K, 400 < mc_cnt c K := by
  obtain ⟨B, hB⟩ := fl_bd (D ++ ρ)
  refine ⟨B, ?_⟩
  have h2 := h.1.2
  have hl := df_pig (D ++ ρ) (mc_fl c B ++ st_D 5) h2.1 (by
    intro T hT
    refine fl_in k (h2.2.1 T hT) fun K e _ => ?_
    have := hB T hT
    omega)
  rw [List.length_append, List.length_append, st_D_l] at hl
  have hD := h.2.2.1
  have hpos : 0 < ρ.length := by
    cases ρ with
    | nil => exact absurd rfl hr
    | cons a l => rw [List.length_cons]; omega
  rw [mc_cnt]
  omega
theorem ou_done (k : cf_ok c) {D : List (Nat × Nat)} {N rf sc : Nat} {nw : Int32} {sa : Nat → Int32} {u : SX} (h : ru_I c fo fl fg D [] N rf sc nw sa u) :
    (∀ K x, mc_real c K x → (K, x) ∈ D) ∧ ∃ K, cf_n c ≤ mi c K ∧ mc_cnt c K ≤ 400 ∧ mc_cnt c K = sc := by
  have h2 := h.1.2
  have hf : ∀ K x, mc_real c K x → (K, x) ∈ D := fun K x hr => df_full k h2 h.2.1 (K + 1) K x (by omega) hr
  refine ⟨hf, ?_⟩
  have hD := h.2.2.1
  have h6 := h.2.2.2.2
  have hb : ∀ K, mc_cnt c K ≤ sc := by
    intro K
    have hl := df_pig (mc_fl c K ++ st_D 5) D (by
      rw [List.nodup_append]
      refine ⟨mc_fl_n k K, by decide, ?_⟩
      rintro ⟨a1, a2⟩ ha ⟨b1, b2⟩ hb e
      obtain ⟨K', _, e1, _⟩ := (mc_fl_m k K).mp ha
      obtain ⟨e2, _⟩ := (st_D_m b1 b2 5).mp hb
      have e3 : a1 = b1 := congrArg Prod.fst e
      simp only [] at e1
      omega) (by
      rintro ⟨T1, x⟩ hT
      apply hf
      rcases List.mem_append.mp hT with z | z
      · obtain ⟨K', _, e1, e2⟩ := (mc_fl_m k K).mp z
        exact ⟨mc_rx k e2, Or.inr ⟨K', e1, e2⟩⟩
      · obtain ⟨e1, e2⟩ := (st_D_m T1 x 5).mp z
        exact ⟨e2, Or.inl e1⟩)
    rw [List.length_append, st_D_l] at hl
    rw [mc_cnt]
    omega
  obtain ⟨K, hK⟩ := mc_end k hb
  refine ⟨K, hK, by have := hb K; omega, ?_⟩
  have hl := df_pig D (mc_fl c K ++ st_D 5) (List.nodup_append.mp h2.1).1 (by
    intro T hT
    refine fl_in k (h2.2.1 T (List.mem_append_left _ hT)) fun K' e e2 => ?_
    by_cases g : K' < K
    · exact g
    · exfalso
      have h1 := mc_ni k e2
      have h3 := (mc_halt k hK (K' - K)).1
      rw [show K + (K' - K) = K' from by omega] at h3
      omega)
  rw [List.length_append, st_D_l] at hl
  have := hb K
  rw [mc_cnt] at this ⊢
  omega
theorem fl_pos (k : cf_ok c) {K x : Nat} (hr : mr c K x = true) : 0 < mt c (K + 1) x := by
  obtain ⟨_, j, hj, e⟩ := mc_time k hr
  omega
theorem ou_steps (k : cf_ok c) {D : List (Nat × Nat)} {K t : Nat} {sa : Nat → Int32} (hf : ∀ K x, mc_real c K x → (K, x) ∈ D) (hK : cf_n c ≤ mi c K) (g : lv_G c D t) (S : lv_S c t sa) : ∀ s, s < 402 → sa s = nI (mc_ct c K s) := by
  have hlt : ∀ K x, mc_real c K x → mt c K x < t := fun K x hr => (g K x hr).mp (hf K x hr)
  have hmem : ∀ s T, T ∈ (mc_fl c K).filter (fun T => decide (mt c T.1 T.2 = s)) ↔ (mc_real c T.1 T.2 ∧ T.1 ≠ 0) ∧ mt c T.1 T.2 = s := by
    intro s T
    rw [List.mem_filter, mc_fl_m k, decide_eq_true_eq]
    constructor
    · rintro ⟨⟨K', h1, h2, h3⟩, h4⟩
      exact ⟨⟨⟨mc_rx k h3, Or.inr ⟨K', h2, h3⟩⟩, by omega⟩, h4⟩
    · rintro ⟨⟨⟨hx, h0 | ⟨K', h2, h3⟩⟩, h1⟩, h4⟩
      · exact absurd h0 h1
      · refine ⟨⟨K', ?_, h2, h3⟩, h4⟩
        by_cases g : K' < K
        · exact g
        · exfalso
          have h1 := mc_ni k h3
          have h3 := (mc_halt k hK (K' - K)).1
          rw [show K + (K' - K) = K' from by omega] at h3
          omega
  have hnd : ∀ s, ((mc_fl c K).filter (fun T => decide (mt c T.1 T.2 = s))).Nodup := fun s => List.Pairwise.filter _ (mc_fl_n k K)
  have hnil : ∀ s, (∀ T : Nat × Nat, mc_real c T.1 T.2 → T.1 ≠ 0 → mt c T.1 T.2 ≠ s) → mc_ct c K s = 0 := by
    intro s hs
    rw [mc_ct]
    cases e : (mc_fl c K).filter (fun T => decide (mt c T.1 T.2 = s)) with
    | nil => rfl
    | cons a l =>
      exfalso
      have := (hmem s a).mp (by rw [e]; exact List.mem_cons_self ..)
      exact hs a this.1.1 this.1.2 this.2
  intro s hs
  by_cases h0 : s = 0
  · subst h0
    rw [S.1, hnil 0 (by
      rintro ⟨T1, x⟩ ⟨hx, z | ⟨K', z1, z2⟩⟩ hne
      · exact absurd z hne
      · simp only [] at z1
        subst z1
        have h3 : 0 < mt c (K' + 1) x := fl_pos k z2
        intro h4
        have h5 : mt c (K' + 1) x = 0 := h4
        omega)]
    rfl
  · by_cases h1 : s < t
    · obtain ⟨l, l1, l2, l3⟩ := S.2.2 s (by omega) h1
      rw [l3, mc_ct]
      apply congrArg nI
      have hreal : ∀ T : Nat × Nat, mc_real c T.1 T.2 → mt c T.1 T.2 = s → T.1 ≠ 0 := by
        intro T _ hm z
        rw [z] at hm
        have : mt c 0 T.2 = 0 := rfl
        omega
      have a1 := df_pig l _ l1 (fun T hT => by
        obtain ⟨q1, q2⟩ := (l2 T).mp hT
        exact (hmem s T).mpr ⟨⟨q1, hreal T q1 q2⟩, q2⟩)
      have a2 := df_pig _ l (hnd s) (fun T hT => by
        obtain ⟨⟨q1, _⟩, q2⟩ := (hmem s T).mp hT
        exact (l2 T).mpr ⟨q1, q2⟩)
      omega
    · rw [S.2.1 s (by omega) hs, hnil s (fun T hr _ z => by have := hlt T.1 T.2 hr; omega)]
      rfl
/-! runBy -/
theorem xs_rb71 (k : cf_ok c) {post : SX → Prop} {ord : Int32} {D ρ : List (Nat × Nat)} {N rf sc : Nat} {nw : Int32} {sa : Nat → Int32}
    (H : ∀ u, px_I c fo fl u → (match u with | (f_lines, f_opened, f_nodes, f_edges, f_depth, f_tags, f_readyFrom, f_readyTo, f_ranOrder, f_isRun, f_ended, f_stepCount, f_now, a_lineKind, a_lineA, a_lineB, a_lineC, a_lineD, a_openLine, a_start, a_nodeKind, a_nodeNumber, a_firstEdge, a_edgeTo, a_edgeInput, a_nextEdge, a_current, a_keptFirst, a_keptSecond, a_openIs, a_hasOther, a_tagLoop, a_tagRound, a_tagAround, a_waitNode, a_waitTag, a_waitValue, a_waitInput, a_readyNode, a_readyTag, a_readyA, a_readyB, a_readyInput, a_result, a_resultTime, a_stepsAt) => f_isRun = 1 ∧ f_ranOrder = ord ∧ ro_I c ord f_ended f_stepCount a_result a_resultTime a_stepsAt) → post u)
    (h : ru_I c fo fl fg D ρ N rf sc nw sa (f_lines, f_opened, f_nodes, f_edges, f_depth, f_tags, f_readyFrom, f_readyTo, f_ranOrder, f_isRun, f_ended, f_stepCount, f_now, a_lineKind, a_lineA, a_lineB, a_lineC, a_lineD, a_openLine, a_start, a_nodeKind, a_nodeNumber, a_firstEdge, a_edgeTo, a_edgeInput, a_nextEdge, a_current, a_keptFirst, a_keptSecond, a_openIs, a_hasOther, a_tagLoop, a_tagRound, a_tagAround, a_waitNode, a_waitTag, a_waitValue, a_waitInput, a_readyNode, a_readyTag, a_readyA, a_readyB, a_readyInput, a_result, a_resultTime, a_stepsAt)) (h1 : ρ = [] ∨ sc = 400) (h2 : ord = 2 → fg = true ∧ (ρ = [] → ∃ t, lv_G c D t ∧ lv_S c t sa)) : wX_runBy_71 post ord f_lines f_opened f_nodes f_edges f_depth f_tags f_readyFrom f_readyTo f_ranOrder f_isRun f_ended f_stepCount f_now a_lineKind a_lineA a_lineB a_lineC a_lineD a_openLine a_start a_nodeKind a_nodeNumber a_firstEdge a_edgeTo a_edgeInput a_nextEdge a_current a_keptFirst a_keptSecond a_openIs a_hasOther a_tagLoop a_tagRound a_tagAround a_waitNode a_waitTag a_waitValue a_waitInput a_readyNode a_readyTag a_readyA a_readyB a_readyInput a_result a_resultTime a_stepsAt := by
  obtain ⟨r1, r2, r3, r4, r5⟩ := ru_el h
  have hD : D.length = sc + 5 := h.2.2.1
  have h6 := h.2.2.2.2
  have hl := df_rho0 k h.1.2 (by omega)
  have hp := (tgx_el h.1.1.1).1
  by_cases he : ρ = []
  · subst he
    refine br_t (by rw [r1, r2]; exact nI_le (by simp) (by simp; omega)) ?_
    obtain ⟨hf, K, hK, hc, hcs⟩ := ou_done k h
    refine H _ (px_mk hp) (And.intro rfl (And.intro rfl (Or.inr ⟨k.2, Or.inl ⟨rfl, K, hK, hc, ?_, ?_⟩⟩)))
    · intro x hx
      obtain ⟨⟨⟨_, _, _, _, hs, _⟩, _⟩, _⟩ := h
      exact (hs x K hx hK (Or.inl (hf _ _ (mc_M1 k hx K).2.1))).1
    · intro ho
      obtain ⟨hfg, hlv⟩ := h2 ho
      obtain ⟨t, g, S⟩ := hlv rfl
      refine ⟨by rw [r3, hcs], ?_, ?_⟩
      · intro x hx
        obtain ⟨⟨⟨_, _, _, _, hs, _⟩, _⟩, _⟩ := h
        exact (hs x K hx hK (Or.inl (hf _ _ (mc_M1 k hx K).2.1))).2 hfg
      · rw [r5]
        exact ou_steps k hf hK g S
  · have hpos : 0 < ρ.length := by
      cases ρ with
      | nil => exact absurd rfl he
      | cons a l => rw [List.length_cons]; omega
    refine br_f (by rw [r1, r2]; exact nI_ge (by omega) (by omega)) ?_
    refine H _ (px_mk hp) (And.intro rfl (And.intro rfl (Or.inr ⟨k.2, Or.inr ⟨rfl, ou_tired k h he ?_⟩⟩)))
    rcases h1 with z | z
    · exact absurd z he
    · exact z
theorem ru_0 {ρ : List (Nat × Nat)} {sa : Nat → Int32} {u : SX} (h : id_I c fo fl fg (st_D 5) ρ 1 0 0 0 sa u) : ru_I c fo fl fg (st_D 5) ρ 1 0 0 0 sa u :=
  ⟨h, fun x hx => (st_D_m 0 x 5).mpr ⟨rfl, hx⟩, rfl, Nat.le_refl _, Nat.le_refl _, by decide⟩
theorem xs_runFirst (k : cf_ok c) {post : SX → Prop} {sa : Nat → Int32} {ρ : List (Nat × Nat)} (H : ∀ u D ρ N rf sc, ru_I c fo fl false D ρ N rf sc 0 sa u → (ρ = [] ∨ sc = 400) → post u) (u : SX) (h : ru_I c fo fl false (st_D 5) ρ 1 0 0 0 sa u) : wpX_runFirst post u := by
  obtain ⟨f_lines, f_opened, f_nodes, f_edges, f_depth, f_tags, f_readyFrom, f_readyTo, f_ranOrder, f_isRun, f_ended, f_stepCount, f_now, a_lineKind, a_lineA, a_lineB, a_lineC, a_lineD, a_openLine, a_start, a_nodeKind, a_nodeNumber, a_firstEdge, a_edgeTo, a_edgeInput, a_nextEdge, a_current, a_keptFirst, a_keptSecond, a_openIs, a_hasOther, a_tagLoop, a_tagRound, a_tagAround, a_waitNode, a_waitTag, a_waitValue, a_waitInput, a_readyNode, a_readyTag, a_readyA, a_readyB, a_readyInput, a_result, a_resultTime, a_stepsAt⟩ := u
  exact ⟨401, xs_rf (c := c) (fo := fo) (fl := fl) k (sa := sa) (post := post) H 400 0 rfl 401 (by omega) (f_lines, f_opened, f_nodes, f_edges, f_depth, f_tags, f_readyFrom, f_readyTo, f_ranOrder, f_isRun, f_ended, f_stepCount, f_now, a_lineKind, a_lineA, a_lineB, a_lineC, a_lineD, a_openLine, a_start, a_nodeKind, a_nodeNumber, a_firstEdge, a_edgeTo, a_edgeInput, a_nextEdge, a_current, a_keptFirst, a_keptSecond, a_openIs, a_hasOther, a_tagLoop, a_tagRound, a_tagAround, a_waitNode, a_waitTag, a_waitValue, a_waitInput, a_readyNode, a_readyTag, a_readyA, a_readyB, a_readyInput, a_result, a_resultTime, a_stepsAt) (st_D 5) ρ 1 h⟩
theorem xs_runLast (k : cf_ok c) {post : SX → Prop} {sa : Nat → Int32} {ρ : List (Nat × Nat)} (H : ∀ u D ρ N rf sc, ru_I c fo fl false D ρ N rf sc 0 sa u → (ρ = [] ∨ sc = 400) → post u) (u : SX) (h : ru_I c fo fl false (st_D 5) ρ 1 0 0 0 sa u) : wpX_runLast post u := by
  obtain ⟨f_lines, f_opened, f_nodes, f_edges, f_depth, f_tags, f_readyFrom, f_readyTo, f_ranOrder, f_isRun, f_ended, f_stepCount, f_now, a_lineKind, a_lineA, a_lineB, a_lineC, a_lineD, a_openLine, a_start, a_nodeKind, a_nodeNumber, a_firstEdge, a_edgeTo, a_edgeInput, a_nextEdge, a_current, a_keptFirst, a_keptSecond, a_openIs, a_hasOther, a_tagLoop, a_tagRound, a_tagAround, a_waitNode, a_waitTag, a_waitValue, a_waitInput, a_readyNode, a_readyTag, a_readyA, a_readyB, a_readyInput, a_result, a_resultTime, a_stepsAt⟩ := u
  exact ⟨401, xs_rl (c := c) (fo := fo) (fl := fl) k (sa := sa) (post := post) H 400 0 rfl 401 (by omega) (f_lines, f_opened, f_nodes, f_edges, f_depth, f_tags, f_readyFrom, f_readyTo, f_ranOrder, f_isRun, f_ended, f_stepCount, f_now, a_lineKind, a_lineA, a_lineB, a_lineC, a_lineD, a_openLine, a_start, a_nodeKind, a_nodeNumber, a_firstEdge, a_edgeTo, a_edgeInput, a_nextEdge, a_current, a_keptFirst, a_keptSecond, a_openIs, a_hasOther, a_tagLoop, a_tagRound, a_tagAround, a_waitNode, a_waitTag, a_waitValue, a_waitInput, a_readyNode, a_readyTag, a_readyA, a_readyB, a_readyInput, a_result, a_resultTime, a_stepsAt) (st_D 5) ρ 1 h⟩
theorem xs_runTimes (k : cf_ok c) {post : SX → Prop} {sa : Nat → Int32} {ρ : List (Nat × Nat)} (H : ∀ u D ρ N rf sc nw sa, ru_I c fo fl true D ρ N rf sc nw sa u → (ρ = [] ∨ sc = 400) → (ρ = [] → ∃ t, lv_G c D t ∧ lv_S c t sa) → post u)
    (u : SX) (h : ru_I c fo fl true (st_D 5) ρ 1 0 0 0 sa u) (hO : lv_O c (st_D 5) ρ 0 1 sa) : wpX_runTimes post u := by
  obtain ⟨f_lines, f_opened, f_nodes, f_edges, f_depth, f_tags, f_readyFrom, f_readyTo, f_ranOrder, f_isRun, f_ended, f_stepCount, f_now, a_lineKind, a_lineA, a_lineB, a_lineC, a_lineD, a_openLine, a_start, a_nodeKind, a_nodeNumber, a_firstEdge, a_edgeTo, a_edgeInput, a_nextEdge, a_current, a_keptFirst, a_keptSecond, a_openIs, a_hasOther, a_tagLoop, a_tagRound, a_tagAround, a_waitNode, a_waitTag, a_waitValue, a_waitInput, a_readyNode, a_readyTag, a_readyA, a_readyB, a_readyInput, a_result, a_resultTime, a_stepsAt⟩ := u
  exact ⟨401, xs_rt (c := c) (fo := fo) (fl := fl) k (post := post) H 400 1 rfl (by omega) 401 (by omega) (f_lines, f_opened, f_nodes, f_edges, f_depth, f_tags, f_readyFrom, f_readyTo, f_ranOrder, f_isRun, f_ended, f_stepCount, f_now, a_lineKind, a_lineA, a_lineB, a_lineC, a_lineD, a_openLine, a_start, a_nodeKind, a_nodeNumber, a_firstEdge, a_edgeTo, a_edgeInput, a_nextEdge, a_current, a_keptFirst, a_keptSecond, a_openIs, a_hasOther, a_tagLoop, a_tagRound, a_tagAround, a_waitNode, a_waitTag, a_waitValue, a_waitInput, a_readyNode, a_readyTag, a_readyA, a_readyB, a_readyInput, a_result, a_resultTime, a_stepsAt) (st_D 5) ρ 1 0 0 0 sa h hO⟩
theorem xs_rb16 (w : cf_wf c) {post : SX → Prop} {ord : Int32} (ho : ord = 0 ∨ ord = 1 ∨ ord = 2) (hfo : fo = nI (cf_st c (cf_n c)).length) (hst : (cf_st c (cf_n c)).length ≤ 4)
    (H : ∀ u, px_I c fo fl u → (match u with | (f_lines, f_opened, f_nodes, f_edges, f_depth, f_tags, f_readyFrom, f_readyTo, f_ranOrder, f_isRun, f_ended, f_stepCount, f_now, a_lineKind, a_lineA, a_lineB, a_lineC, a_lineD, a_openLine, a_start, a_nodeKind, a_nodeNumber, a_firstEdge, a_edgeTo, a_edgeInput, a_nextEdge, a_current, a_keptFirst, a_keptSecond, a_openIs, a_hasOther, a_tagLoop, a_tagRound, a_tagAround, a_waitNode, a_waitTag, a_waitValue, a_waitInput, a_readyNode, a_readyTag, a_readyA, a_readyB, a_readyInput, a_result, a_resultTime, a_stepsAt) => f_isRun = 1 ∧ f_ranOrder = ord ∧ ro_I c ord f_ended f_stepCount a_result a_resultTime a_stepsAt) → post u)
    (hp : px_I c fo fl (f_lines, f_opened, f_nodes, f_edges, f_depth, f_tags, f_readyFrom, f_readyTo, f_ranOrder, f_isRun, f_ended, f_stepCount, f_now, a_lineKind, a_lineA, a_lineB, a_lineC, a_lineD, a_openLine, a_start, a_nodeKind, a_nodeNumber, a_firstEdge, a_edgeTo, a_edgeInput, a_nextEdge, a_current, a_keptFirst, a_keptSecond, a_openIs, a_hasOther, a_tagLoop, a_tagRound, a_tagAround, a_waitNode, a_waitTag, a_waitValue, a_waitInput, a_readyNode, a_readyTag, a_readyA, a_readyB, a_readyInput, a_result, a_resultTime, a_stepsAt)) : wX_runBy_16 post ord f_lines f_opened f_nodes f_edges f_depth f_tags f_readyFrom f_readyTo f_ranOrder f_isRun f_ended f_stepCount f_now a_lineKind a_lineA a_lineB a_lineC a_lineD a_openLine a_start a_nodeKind a_nodeNumber a_firstEdge a_edgeTo a_edgeInput a_nextEdge a_current a_keptFirst a_keptSecond a_openIs a_hasOther a_tagLoop a_tagRound a_tagAround a_waitNode a_waitTag a_waitValue a_waitInput a_readyNode a_readyTag a_readyA a_readyB a_readyInput a_result a_resultTime a_stepsAt := by
  have hp1 := px_el hp
  by_cases hn : cf_st c (cf_n c) = []
  · have k : cf_ok c := ⟨w, hn⟩
    refine br_t (by rw [hp1.2.1, hfo, hn]; decide) ?_
    refine xs_translate (c := c) (fo := fo) (fl := fl) k ?_ (f_lines, f_opened, f_nodes, f_edges, f_depth, f_tags, f_readyFrom, f_readyTo, f_ranOrder, f_isRun, f_ended, f_stepCount, f_now, a_lineKind, a_lineA, a_lineB, a_lineC, a_lineD, a_openLine, a_start, a_nodeKind, a_nodeNumber, a_firstEdge, a_edgeTo, a_edgeInput, a_nextEdge, a_current, a_keptFirst, a_keptSecond, a_openIs, a_hasOther, a_tagLoop, a_tagRound, a_tagAround, a_waitNode, a_waitTag, a_waitValue, a_waitInput, a_readyNode, a_readyTag, a_readyA, a_readyB, a_readyInput, a_result, a_resultTime, a_stepsAt) hp
    intro u hu
    obtain ⟨f_lines, f_opened, f_nodes, f_edges, f_depth, f_tags, f_readyFrom, f_readyTo, f_ranOrder, f_isRun, f_ended, f_stepCount, f_now, a_lineKind, a_lineA, a_lineB, a_lineC, a_lineD, a_openLine, a_start, a_nodeKind, a_nodeNumber, a_firstEdge, a_edgeTo, a_edgeInput, a_nextEdge, a_current, a_keptFirst, a_keptSecond, a_openIs, a_hasOther, a_tagLoop, a_tagRound, a_tagAround, a_waitNode, a_waitTag, a_waitValue, a_waitInput, a_readyNode, a_readyTag, a_readyA, a_readyB, a_readyInput, a_result, a_resultTime, a_stepsAt⟩ := u
    rcases ho with rfl | rfl | rfl
    · refine xs_startRun (c := c) (fo := fo) (fl := fl) (fg := false) k ?_ (f_lines, f_opened, f_nodes, f_edges, f_depth, f_tags, f_readyFrom, f_readyTo, f_ranOrder, f_isRun, f_ended, f_stepCount, f_now, a_lineKind, a_lineA, a_lineB, a_lineC, a_lineD, a_openLine, a_start, a_nodeKind, a_nodeNumber, a_firstEdge, a_edgeTo, a_edgeInput, a_nextEdge, a_current, a_keptFirst, a_keptSecond, a_openIs, a_hasOther, a_tagLoop, a_tagRound, a_tagAround, a_waitNode, a_waitTag, a_waitValue, a_waitInput, a_readyNode, a_readyTag, a_readyA, a_readyB, a_readyInput, a_result, a_resultTime, a_stepsAt) hu
      intro u ρ sa hsa hu
      obtain ⟨f_lines, f_opened, f_nodes, f_edges, f_depth, f_tags, f_readyFrom, f_readyTo, f_ranOrder, f_isRun, f_ended, f_stepCount, f_now, a_lineKind, a_lineA, a_lineB, a_lineC, a_lineD, a_openLine, a_start, a_nodeKind, a_nodeNumber, a_firstEdge, a_edgeTo, a_edgeInput, a_nextEdge, a_current, a_keptFirst, a_keptSecond, a_openIs, a_hasOther, a_tagLoop, a_tagRound, a_tagAround, a_waitNode, a_waitTag, a_waitValue, a_waitInput, a_readyNode, a_readyTag, a_readyA, a_readyB, a_readyInput, a_result, a_resultTime, a_stepsAt⟩ := u
      refine br_t rfl (xs_runFirst (c := c) (fo := fo) (fl := fl) k (sa := sa) ?_ (f_lines, f_opened, f_nodes, f_edges, f_depth, f_tags, f_readyFrom, f_readyTo, f_ranOrder, f_isRun, f_ended, f_stepCount, f_now, a_lineKind, a_lineA, a_lineB, a_lineC, a_lineD, a_openLine, a_start, a_nodeKind, a_nodeNumber, a_firstEdge, a_edgeTo, a_edgeInput, a_nextEdge, a_current, a_keptFirst, a_keptSecond, a_openIs, a_hasOther, a_tagLoop, a_tagRound, a_tagAround, a_waitNode, a_waitTag, a_waitValue, a_waitInput, a_readyNode, a_readyTag, a_readyA, a_readyB, a_readyInput, a_result, a_resultTime, a_stepsAt) (ru_0 hu))
      intro u D ρ N rf sc h h1
      obtain ⟨f_lines, f_opened, f_nodes, f_edges, f_depth, f_tags, f_readyFrom, f_readyTo, f_ranOrder, f_isRun, f_ended, f_stepCount, f_now, a_lineKind, a_lineA, a_lineB, a_lineC, a_lineD, a_openLine, a_start, a_nodeKind, a_nodeNumber, a_firstEdge, a_edgeTo, a_edgeInput, a_nextEdge, a_current, a_keptFirst, a_keptSecond, a_openIs, a_hasOther, a_tagLoop, a_tagRound, a_tagAround, a_waitNode, a_waitTag, a_waitValue, a_waitInput, a_readyNode, a_readyTag, a_readyA, a_readyB, a_readyInput, a_result, a_resultTime, a_stepsAt⟩ := u
      exact xs_rb71 k H h h1 (fun z => absurd z (by decide))
    · refine xs_startRun (c := c) (fo := fo) (fl := fl) (fg := false) k ?_ (f_lines, f_opened, f_nodes, f_edges, f_depth, f_tags, f_readyFrom, f_readyTo, f_ranOrder, f_isRun, f_ended, f_stepCount, f_now, a_lineKind, a_lineA, a_lineB, a_lineC, a_lineD, a_openLine, a_start, a_nodeKind, a_nodeNumber, a_firstEdge, a_edgeTo, a_edgeInput, a_nextEdge, a_current, a_keptFirst, a_keptSecond, a_openIs, a_hasOther, a_tagLoop, a_tagRound, a_tagAround, a_waitNode, a_waitTag, a_waitValue, a_waitInput, a_readyNode, a_readyTag, a_readyA, a_readyB, a_readyInput, a_result, a_resultTime, a_stepsAt) hu
      intro u ρ sa hsa hu
      obtain ⟨f_lines, f_opened, f_nodes, f_edges, f_depth, f_tags, f_readyFrom, f_readyTo, f_ranOrder, f_isRun, f_ended, f_stepCount, f_now, a_lineKind, a_lineA, a_lineB, a_lineC, a_lineD, a_openLine, a_start, a_nodeKind, a_nodeNumber, a_firstEdge, a_edgeTo, a_edgeInput, a_nextEdge, a_current, a_keptFirst, a_keptSecond, a_openIs, a_hasOther, a_tagLoop, a_tagRound, a_tagAround, a_waitNode, a_waitTag, a_waitValue, a_waitInput, a_readyNode, a_readyTag, a_readyA, a_readyB, a_readyInput, a_result, a_resultTime, a_stepsAt⟩ := u
      obtain ⟨r1, _⟩ := ru_el (ru_0 hu)
      subst r1
      refine br_f (by decide) (br_t rfl (xs_runLast (c := c) (fo := fo) (fl := fl) k (sa := sa) ?_ (f_lines, f_opened, f_nodes, f_edges, f_depth, f_tags, nI 0, f_readyTo, f_ranOrder, f_isRun, f_ended, f_stepCount, f_now, a_lineKind, a_lineA, a_lineB, a_lineC, a_lineD, a_openLine, a_start, a_nodeKind, a_nodeNumber, a_firstEdge, a_edgeTo, a_edgeInput, a_nextEdge, a_current, a_keptFirst, a_keptSecond, a_openIs, a_hasOther, a_tagLoop, a_tagRound, a_tagAround, a_waitNode, a_waitTag, a_waitValue, a_waitInput, a_readyNode, a_readyTag, a_readyA, a_readyB, a_readyInput, a_result, a_resultTime, a_stepsAt) (ru_0 hu)))
      intro u D ρ N rf sc h h1
      obtain ⟨f_lines, f_opened, f_nodes, f_edges, f_depth, f_tags, f_readyFrom, f_readyTo, f_ranOrder, f_isRun, f_ended, f_stepCount, f_now, a_lineKind, a_lineA, a_lineB, a_lineC, a_lineD, a_openLine, a_start, a_nodeKind, a_nodeNumber, a_firstEdge, a_edgeTo, a_edgeInput, a_nextEdge, a_current, a_keptFirst, a_keptSecond, a_openIs, a_hasOther, a_tagLoop, a_tagRound, a_tagAround, a_waitNode, a_waitTag, a_waitValue, a_waitInput, a_readyNode, a_readyTag, a_readyA, a_readyB, a_readyInput, a_result, a_resultTime, a_stepsAt⟩ := u
      exact xs_rb71 k H h h1 (fun z => absurd z (by decide))
    · refine xs_startRun (c := c) (fo := fo) (fl := fl) (fg := true) k ?_ (f_lines, f_opened, f_nodes, f_edges, f_depth, f_tags, f_readyFrom, f_readyTo, f_ranOrder, f_isRun, f_ended, f_stepCount, f_now, a_lineKind, a_lineA, a_lineB, a_lineC, a_lineD, a_openLine, a_start, a_nodeKind, a_nodeNumber, a_firstEdge, a_edgeTo, a_edgeInput, a_nextEdge, a_current, a_keptFirst, a_keptSecond, a_openIs, a_hasOther, a_tagLoop, a_tagRound, a_tagAround, a_waitNode, a_waitTag, a_waitValue, a_waitInput, a_readyNode, a_readyTag, a_readyA, a_readyB, a_readyInput, a_result, a_resultTime, a_stepsAt) hu
      intro u ρ sa hsa hu
      obtain ⟨f_lines, f_opened, f_nodes, f_edges, f_depth, f_tags, f_readyFrom, f_readyTo, f_ranOrder, f_isRun, f_ended, f_stepCount, f_now, a_lineKind, a_lineA, a_lineB, a_lineC, a_lineD, a_openLine, a_start, a_nodeKind, a_nodeNumber, a_firstEdge, a_edgeTo, a_edgeInput, a_nextEdge, a_current, a_keptFirst, a_keptSecond, a_openIs, a_hasOther, a_tagLoop, a_tagRound, a_tagAround, a_waitNode, a_waitTag, a_waitValue, a_waitInput, a_readyNode, a_readyTag, a_readyA, a_readyB, a_readyInput, a_result, a_resultTime, a_stepsAt⟩ := u
      refine br_f (by decide) (br_f (by decide) (xs_runTimes (c := c) (fo := fo) (fl := fl) k (sa := sa) ?_ (f_lines, f_opened, f_nodes, f_edges, f_depth, f_tags, f_readyFrom, f_readyTo, f_ranOrder, f_isRun, f_ended, f_stepCount, f_now, a_lineKind, a_lineA, a_lineB, a_lineC, a_lineD, a_openLine, a_start, a_nodeKind, a_nodeNumber, a_firstEdge, a_edgeTo, a_edgeInput, a_nextEdge, a_current, a_keptFirst, a_keptSecond, a_openIs, a_hasOther, a_tagLoop, a_tagRound, a_tagAround, a_waitNode, a_waitTag, a_waitValue, a_waitInput, a_readyNode, a_readyTag, a_readyA, a_readyB, a_readyInput, a_result, a_resultTime, a_stepsAt) (ru_0 hu) ?_))
      · intro u D ρ N rf sc nw sa h h1 h2
        obtain ⟨f_lines, f_opened, f_nodes, f_edges, f_depth, f_tags, f_readyFrom, f_readyTo, f_ranOrder, f_isRun, f_ended, f_stepCount, f_now, a_lineKind, a_lineA, a_lineB, a_lineC, a_lineD, a_openLine, a_start, a_nodeKind, a_nodeNumber, a_firstEdge, a_edgeTo, a_edgeInput, a_nextEdge, a_current, a_keptFirst, a_keptSecond, a_openIs, a_hasOther, a_tagLoop, a_tagRound, a_tagAround, a_waitNode, a_waitTag, a_waitValue, a_waitInput, a_readyNode, a_readyTag, a_readyA, a_readyB, a_readyInput, a_result, a_resultTime, a_stepsAt⟩ := u
        exact xs_rb71 k H h h1 (fun _ => ⟨rfl, h2⟩)
      · refine Or.inl ⟨?_, ⟨hsa 0 (by decide), fun s _ hs => hsa s hs, fun s h1 h2 => by omega⟩, by omega⟩
        rintro K x ⟨hx, rfl | ⟨K', rfl, hr⟩⟩
        · rw [st_D_m]
          have : mt c 0 x = 0 := rfl
          omega
        · rw [st_D_m]
          have := fl_pos k hr
          omega
  · have hpos : 0 < (cf_st c (cf_n c)).length := by
      cases e : cf_st c (cf_n c) with
      | nil => exact absurd e hn
      | cons a l => rw [List.length_cons]; omega
    refine br_f (by rw [hp1.2.1, hfo]; exact nI_nle hpos (by omega)) ?_
    exact H _ (px_mk hp1) (And.intro rfl (And.intro rfl (Or.inl ⟨hn, rfl⟩)))
theorem xs_runBy (w : cf_wf c) {post : SX → Prop} {ord : Int32} (ho : ord = 0 ∨ ord = 1 ∨ ord = 2) (hfo : fo = nI (cf_st c (cf_n c)).length) (hst : (cf_st c (cf_n c)).length ≤ 4)
    (H : ∀ u, px_I c fo fl u → (match u with | (f_lines, f_opened, f_nodes, f_edges, f_depth, f_tags, f_readyFrom, f_readyTo, f_ranOrder, f_isRun, f_ended, f_stepCount, f_now, a_lineKind, a_lineA, a_lineB, a_lineC, a_lineD, a_openLine, a_start, a_nodeKind, a_nodeNumber, a_firstEdge, a_edgeTo, a_edgeInput, a_nextEdge, a_current, a_keptFirst, a_keptSecond, a_openIs, a_hasOther, a_tagLoop, a_tagRound, a_tagAround, a_waitNode, a_waitTag, a_waitValue, a_waitInput, a_readyNode, a_readyTag, a_readyA, a_readyB, a_readyInput, a_result, a_resultTime, a_stepsAt) => f_ranOrder = ord ∧ ro_I c ord f_ended f_stepCount a_result a_resultTime a_stepsAt) → post u)
    (u : SX) (hp : px_I c fo fl u) (hc : match u with | (f_lines, f_opened, f_nodes, f_edges, f_depth, f_tags, f_readyFrom, f_readyTo, f_ranOrder, f_isRun, f_ended, f_stepCount, f_now, a_lineKind, a_lineA, a_lineB, a_lineC, a_lineD, a_openLine, a_start, a_nodeKind, a_nodeNumber, a_firstEdge, a_edgeTo, a_edgeInput, a_nextEdge, a_current, a_keptFirst, a_keptSecond, a_openIs, a_hasOther, a_tagLoop, a_tagRound, a_tagAround, a_waitNode, a_waitTag, a_waitValue, a_waitInput, a_readyNode, a_readyTag, a_readyA, a_readyB, a_readyInput, a_result, a_resultTime, a_stepsAt) => f_isRun = 0 ∨ ro_I c f_ranOrder f_ended f_stepCount a_result a_resultTime a_stepsAt) : wpX_runBy post u ord := by
  obtain ⟨f_lines, f_opened, f_nodes, f_edges, f_depth, f_tags, f_readyFrom, f_readyTo, f_ranOrder, f_isRun, f_ended, f_stepCount, f_now, a_lineKind, a_lineA, a_lineB, a_lineC, a_lineD, a_openLine, a_start, a_nodeKind, a_nodeNumber, a_firstEdge, a_edgeTo, a_edgeInput, a_nextEdge, a_current, a_keptFirst, a_keptSecond, a_openIs, a_hasOther, a_tagLoop, a_tagRound, a_tagAround, a_waitNode, a_waitTag, a_waitValue, a_waitInput, a_readyNode, a_readyTag, a_readyA, a_readyB, a_readyInput, a_result, a_resultTime, a_stepsAt⟩ := u
  have H' : ∀ u, px_I c fo fl u → (match u with | (f_lines, f_opened, f_nodes, f_edges, f_depth, f_tags, f_readyFrom, f_readyTo, f_ranOrder, f_isRun, f_ended, f_stepCount, f_now, a_lineKind, a_lineA, a_lineB, a_lineC, a_lineD, a_openLine, a_start, a_nodeKind, a_nodeNumber, a_firstEdge, a_edgeTo, a_edgeInput, a_nextEdge, a_current, a_keptFirst, a_keptSecond, a_openIs, a_hasOther, a_tagLoop, a_tagRound, a_tagAround, a_waitNode, a_waitTag, a_waitValue, a_waitInput, a_readyNode, a_readyTag, a_readyA, a_readyB, a_readyInput, a_result, a_resultTime, a_stepsAt) => f_isRun = 1 ∧ f_ranOrder = ord ∧ ro_I c ord f_ended f_stepCount a_result a_resultTime a_stepsAt) → post u := by
    intro u h1 h2
    refine H u h1 ?_
    obtain ⟨f_lines, f_opened, f_nodes, f_edges, f_depth, f_tags, f_readyFrom, f_readyTo, f_ranOrder, f_isRun, f_ended, f_stepCount, f_now, a_lineKind, a_lineA, a_lineB, a_lineC, a_lineD, a_openLine, a_start, a_nodeKind, a_nodeNumber, a_firstEdge, a_edgeTo, a_edgeInput, a_nextEdge, a_current, a_keptFirst, a_keptSecond, a_openIs, a_hasOther, a_tagLoop, a_tagRound, a_tagAround, a_waitNode, a_waitTag, a_waitValue, a_waitInput, a_readyNode, a_readyTag, a_readyA, a_readyB, a_readyInput, a_result, a_resultTime, a_stepsAt⟩ := u
    exact h2.2
  by_cases h0 : f_isRun = 0
  · exact br_t h0 (xs_rb16 w ho hfo hst H' hp)
  · refine br_f h0 ?_
    by_cases h1 : f_ranOrder = ord
    · refine br_t h1 (H _ hp (And.intro h1 ?_))
      rcases hc with z | z
      · exact absurd z h0
      · rw [h1] at z; exact z
    · exact br_f h1 (xs_rb16 w ho hfo hst H' hp)
end
end
section
/-! the reference: what belongs together -/
def sk_a (p : Nat → Int32) : List Nat → Prop
  | [] => True
  | j :: r => p r.length = nI j ∧ sk_a p r
theorem sk_u {p : Nat → Int32} {m : Nat} {v : Int32} : ∀ l : List Nat, l.length ≤ m → sk_a p l → sk_a (upd p m v) l
  | [], _, _ => trivial
  | j :: r, h, ⟨a, b⟩ => by
    rw [List.length_cons] at h
    exact ⟨by rw [pk_un (by omega)]; exact a, sk_u r (by omega) b⟩
def op_v (o : Option Nat) : Int32 := match o with
  | some m => nI m
  | none => -1
def py_I (c : CF) (v : SY) : Prop := match v with
  | (f_lines, f_height, f_steps, f_last, f_ending, a_inputs, a_sorts, a_variables, a_numbers, a_firsts, a_seconds, a_pile, a_closes, a_others, a_opens, a_values, a_times, a_counts) => f_lines = nI (cf_n c) ∧ a_inputs = c.2.2.2.2.2.2 ∧ a_sorts = c.2.1 ∧ a_variables = c.2.2.1 ∧ a_numbers = c.2.2.2.1 ∧ a_firsts = c.2.2.2.2.1 ∧ a_seconds = c.2.2.2.2.2.1
def pr_I (c : CF) (i : Nat) (v : SY) : Prop := match v with
  | (f_lines, f_height, f_steps, f_last, f_ending, a_inputs, a_sorts, a_variables, a_numbers, a_firsts, a_seconds, a_pile, a_closes, a_others, a_opens, a_values, a_times, a_counts) => f_height = nI (cf_st c i).length ∧ sk_a a_pile (cf_st c i) ∧ (∀ j, j < i → a_closes j = op_v (cf_clo c i j) ∧ a_others j = op_v (cf_oth c i j)) ∧ (∀ m, m < i → cf_kd c m = 3 ∨ cf_kd c m = 5 → a_opens m = nI (cf_op c m))
section
variable {c : CF}
variable {f_lines f_height f_steps f_last f_ending : Int32} {a_inputs a_sorts a_variables a_numbers a_firsts a_seconds a_pile a_closes a_others a_opens a_values a_times a_counts : Nat → Int32}
theorem py_el (h : py_I c (f_lines, f_height, f_steps, f_last, f_ending, a_inputs, a_sorts, a_variables, a_numbers, a_firsts, a_seconds, a_pile, a_closes, a_others, a_opens, a_values, a_times, a_counts)) : f_lines = nI (cf_n c) ∧ a_inputs = c.2.2.2.2.2.2 ∧ a_sorts = c.2.1 ∧ a_variables = c.2.2.1 ∧ a_numbers = c.2.2.2.1 ∧ a_firsts = c.2.2.2.2.1 ∧ a_seconds = c.2.2.2.2.2.1 := h
theorem py_mk (h : f_lines = nI (cf_n c) ∧ a_inputs = c.2.2.2.2.2.2 ∧ a_sorts = c.2.1 ∧ a_variables = c.2.2.1 ∧ a_numbers = c.2.2.2.1 ∧ a_firsts = c.2.2.2.2.1 ∧ a_seconds = c.2.2.2.2.2.1) : py_I c (f_lines, f_height, f_steps, f_last, f_ending, a_inputs, a_sorts, a_variables, a_numbers, a_firsts, a_seconds, a_pile, a_closes, a_others, a_opens, a_values, a_times, a_counts) := h
theorem pr_el {i : Nat} (h : pr_I c i (f_lines, f_height, f_steps, f_last, f_ending, a_inputs, a_sorts, a_variables, a_numbers, a_firsts, a_seconds, a_pile, a_closes, a_others, a_opens, a_values, a_times, a_counts)) : f_height = nI (cf_st c i).length ∧ sk_a a_pile (cf_st c i) ∧ (∀ j, j < i → a_closes j = op_v (cf_clo c i j) ∧ a_others j = op_v (cf_oth c i j)) ∧ (∀ m, m < i → cf_kd c m = 3 ∨ cf_kd c m = 5 → a_opens m = nI (cf_op c m)) := h
theorem pr_mk {i : Nat} (h : f_height = nI (cf_st c i).length ∧ sk_a a_pile (cf_st c i) ∧ (∀ j, j < i → a_closes j = op_v (cf_clo c i j) ∧ a_others j = op_v (cf_oth c i j)) ∧ (∀ m, m < i → cf_kd c m = 3 ∨ cf_kd c m = 5 → a_opens m = nI (cf_op c m))) : pr_I c i (f_lines, f_height, f_steps, f_last, f_ending, a_inputs, a_sorts, a_variables, a_numbers, a_firsts, a_seconds, a_pile, a_closes, a_others, a_opens, a_values, a_times, a_counts) := h
theorem cf_st_len (w : cf_wf c) : ∀ i, i ≤ cf_n c → (cf_st c i).length ≤ 4 := by
  intro i
  induction i with
  | zero => intro _; exact Nat.zero_le _
  | succ i ih =>
    intro hi
    have := ih (by omega)
    rcases cf_st_cs c i with ⟨hk, e1⟩ | ⟨hk, e1⟩ | ⟨_, _, _, e1⟩
    · rw [e1, List.length_cons]
      have := (w.2 i (by omega)).2.2.2.2.2.2 hk
      omega
    · rw [e1, List.length_tail]; omega
    · rw [e1]; exact this
theorem cf_clo_n {i j : Nat} (h : i ≤ j + 1) : cf_clo c i j = none := by
  cases e : cf_clo c i j with
  | none => rfl
  | some m =>
    obtain ⟨a, _, b⟩ := cf_clo_s _ _ _ e
    have := (cf_head b).2.1
    omega
theorem cf_oth_0 {i j : Nat} (h : i ≤ j + 1) : cf_oth c i j = none := by
  cases e : cf_oth c i j with
  | none => rfl
  | some m =>
    obtain ⟨a, _, b⟩ := cf_oth_s _ _ _ e
    have := (cf_head b).2.1
    omega
/-- tables for one line more, if neither a close nor an otherwise -/
theorem pr_s {i : Nat} {cl ot op : Nat → Int32} (h3 : cf_kd c i ≠ 3) (h5 : cf_kd c i ≠ 5) (hc : ∀ j, j < i → cl j = op_v (cf_clo c i j) ∧ ot j = op_v (cf_oth c i j)) (ho : ∀ m, m < i → cf_kd c m = 3 ∨ cf_kd c m = 5 → op m = nI (cf_op c m)) :
    (∀ j, j < i + 1 → upd cl i (-1) j = op_v (cf_clo c (i + 1) j) ∧ upd ot i (-1) j = op_v (cf_oth c (i + 1) j)) ∧ (∀ m, m < i + 1 → cf_kd c m = 3 ∨ cf_kd c m = 5 → op m = nI (cf_op c m)) := by
  constructor
  · intro j hj
    by_cases e : j = i
    · subst e
      rw [pk_us, pk_us, cf_clo_n (Nat.le_refl _), cf_oth_0 (Nat.le_refl _)]
      exact ⟨rfl, rfl⟩
    · rw [pk_un e, pk_un e, cf_clo, cf_oth, if_neg (fun z => h5 z.1), if_neg (fun z => h3 z.1)]
      exact hc j (by omega)
  · intro m hm hk
    by_cases e : m = i
    · subst e; omega
    · exact ho m (by omega) hk
def uy_pr (post : SY → Prop) (n : Nat) (x1 : Int32) (v : SY) : Prop := match v with
  | (f_lines, f_height, f_steps, f_last, f_ending, a_inputs, a_sorts, a_variables, a_numbers, a_firsts, a_seconds, a_pile, a_closes, a_others, a_opens, a_values, a_times, a_counts) => wY_pair_7 post f_lines f_steps f_last f_ending n x1 f_height a_inputs a_sorts a_variables a_numbers a_firsts a_seconds a_pile a_closes a_others a_opens a_values a_times a_counts
theorem ys_pr (w : cf_wf c) {post : SY → Prop} (H : ∀ v, py_I c v → pr_I c (cf_n c) v → post v) :
    ∀ m i, i + m = cf_n c → ∀ n, m < n → ∀ v, py_I c v → pr_I c i v → uy_pr post n (nI i) v := by
  have h20 := w.1
  intro m
  induction m with
  | zero =>
    intro i hi n hn v hp hq
    obtain ⟨n, rfl⟩ : ∃ n', n = n' + 1 := ⟨n - 1, by omega⟩
    have e : i = cf_n c := by omega
    subst e
    obtain ⟨f_lines, f_height, f_steps, f_last, f_ending, a_inputs, a_sorts, a_variables, a_numbers, a_firsts, a_seconds, a_pile, a_closes, a_others, a_opens, a_values, a_times, a_counts⟩ := v
    have hp1 := py_el hp
    exact br_t (by rw [hp1.1]; exact nI_le (Nat.le_refl _) (by omega)) (H _ hp hq)
  | succ m ih =>
    intro i hi n hn v hp hq
    obtain ⟨n, rfl⟩ : ∃ n', n = n' + 1 := ⟨n - 1, by omega⟩
    obtain ⟨f_lines, f_height, f_steps, f_last, f_ending, a_inputs, a_sorts, a_variables, a_numbers, a_firsts, a_seconds, a_pile, a_closes, a_others, a_opens, a_values, a_times, a_counts⟩ := v
    have hp1 := py_el hp
    obtain ⟨q1, q2, q3, q4⟩ := pr_el hq
    have hin' : i < cf_n c := by omega
    have hl := w.2 i hin'
    have hii : vp_in (nI i) 20 := vp_in_nI (by omega) (by decide)
    have hic : (nI i).toNatClampNeg = i := nI_clamp (by omega)
    have hlen := cf_st_len w i (by omega)
    have eK : a_sorts i = nI (cf_kd c i) := by rw [hp1.2.2.1]; exact hl.1
    refine br_f (by rw [hp1.1]; exact nI_ge (by omega) (by omega)) (And.intro hii (nm_r (e' := upd a_others i (-1)) (by rw [hic]) (And.intro hii (nm_r (e' := upd a_closes i (-1)) (by rw [hic]) (And.intro hii ?_)))))
    rw [hic, eK]
    have hpush : (cf_kd c i = 2 ∨ cf_kd c i = 4) → wY_pair_49 post (wY_pair_7 post f_lines f_steps f_last f_ending n) (nI i) f_lines f_height f_steps f_last f_ending a_inputs a_sorts a_variables a_numbers a_firsts a_seconds a_pile (upd a_closes i (-1)) (upd a_others i (-1)) a_opens a_values a_times a_counts := by
      intro hk
      obtain ⟨s1, s2⟩ := pr_s (c := c) (i := i) (by omega) (by omega) q3 q4
      refine And.intro (by rw [q1]; exact vp_in_nI (by omega) (by decide)) (nm_r (e' := upd a_pile (cf_st c i).length (nI i)) (by rw [q1, nI_clamp (by omega)]) (nm_r (e' := nI ((cf_st c i).length + 1)) (by rw [q1]; exact nI_1 _) (nm_r (e' := nI (i + 1)) (nI_1 i) ?_)))
      refine ih (i + 1) (by omega) n (by omega) (f_lines, nI ((cf_st c i).length + 1), f_steps, f_last, f_ending, a_inputs, a_sorts, a_variables, a_numbers, a_firsts, a_seconds, upd a_pile (cf_st c i).length (nI i), upd a_closes i (-1), upd a_others i (-1), a_opens, a_values, a_times, a_counts) (py_mk hp1) (pr_mk ?_)
      rw [cf_st_c hk]
      exact ⟨rfl, ⟨pk_us, sk_u _ (Nat.le_refl _) q2⟩, s1, s2⟩
    rcases cf_k6 w hin' with g | g | g | g | g | g
    · rw [g]
      obtain ⟨s1, s2⟩ := pr_s (c := c) (i := i) (by omega) (by omega) q3 q4
      refine br_f (by decide) (And.intro hii (br_f (by decide) (And.intro hii (br_f (by decide) (And.intro hii (br_f (by decide) (nm_r (e' := nI (i + 1)) (nI_1 i) ?_)))))))
      refine ih (i + 1) (by omega) n (by omega) (f_lines, f_height, f_steps, f_last, f_ending, a_inputs, a_sorts, a_variables, a_numbers, a_firsts, a_seconds, a_pile, upd a_closes i (-1), upd a_others i (-1), a_opens, a_values, a_times, a_counts) (py_mk hp1) (pr_mk ?_)
      rw [cf_st_s (by omega) (by omega) (by omega)]
      exact ⟨q1, q2, s1, s2⟩
    · rw [g]
      obtain ⟨s1, s2⟩ := pr_s (c := c) (i := i) (by omega) (by omega) q3 q4
      refine br_f (by decide) (And.intro hii (br_f (by decide) (And.intro hii (br_f (by decide) (And.intro hii (br_f (by decide) (nm_r (e' := nI (i + 1)) (nI_1 i) ?_)))))))
      refine ih (i + 1) (by omega) n (by omega) (f_lines, f_height, f_steps, f_last, f_ending, a_inputs, a_sorts, a_variables, a_numbers, a_firsts, a_seconds, a_pile, upd a_closes i (-1), upd a_others i (-1), a_opens, a_values, a_times, a_counts) (py_mk hp1) (pr_mk ?_)
      rw [cf_st_s (by omega) (by omega) (by omega)]
      exact ⟨q1, q2, s1, s2⟩
    · have := hpush (Or.inl g)
      rw [g]
      exact br_t rfl this
    · rw [g]
      obtain ⟨j, r, e1, e2, e3⟩ := hl.2.2.2.2.1 g
      have hh : (cf_st c i).head? = some j := by rw [e1]; rfl
      obtain ⟨_, h2, _, h4⟩ := cf_head hh
      rw [e1] at q1 q2 hlen
      rw [List.length_cons] at q1 hlen
      have eh : f_height - 1 = nI r.length := by rw [q1, nI_pred]
      have ehi : vp_in (f_height - 1) 20 := by rw [eh]; exact vp_in_nI (by omega) (by decide)
      have ep : a_pile (f_height - 1).toNatClampNeg = nI j := by rw [eh, nI_clamp (by omega)]; exact q2.1
      refine br_f (by decide) (And.intro hii (br_f (by decide) (And.intro hii (br_t rfl ?_))))
      rw [ep]
      refine And.intro ehi (And.intro hii (nm_r (e' := upd a_opens i (nI j)) rfl (And.intro ehi (And.intro (vp_in_nI (by omega) (by decide)) (nm_r (e' := upd (upd a_others i (-1)) j (nI i)) (by rw [nI_clamp (by omega)]) (nm_r (e' := nI (i + 1)) (nI_1 i) ?_))))))
      refine ih (i + 1) (by omega) n (by omega) (f_lines, f_height, f_steps, f_last, f_ending, a_inputs, a_sorts, a_variables, a_numbers, a_firsts, a_seconds, a_pile, upd a_closes i (-1), upd (upd a_others i (-1)) j (nI i), upd a_opens i (nI j), a_values, a_times, a_counts) (py_mk hp1) (pr_mk ?_)
      rw [cf_st_s (by omega) (by omega) (by omega), e1]
      refine ⟨q1, q2, ?_, ?_⟩
      · intro j' hj'
        constructor
        · rw [cf_clo, if_neg (fun z => by omega)]
          by_cases e : j' = i
          · subst e
            rw [pk_us, cf_clo_n (by omega)]; rfl
          · rw [pk_un e]; exact (q3 j' (by omega)).1
        · by_cases e : j' = j
          · subst e
            rw [pk_us, cf_oth, if_pos ⟨g, hh⟩]; rfl
          · rw [pk_un e, cf_oth, if_neg (fun z => by rw [hh] at z; exact e (Option.some.inj z.2).symm)]
            by_cases e' : j' = i
            · subst e'
              rw [pk_us, cf_oth_0 (by omega)]; rfl
            · rw [pk_un e']; exact (q3 j' (by omega)).2
      · intro m' hm' hk'
        by_cases e : m' = i
        · subst e
          rw [pk_us, h4]
        · rw [pk_un e]; exact q4 m' (by omega) hk'
    · have := hpush (Or.inr g)
      rw [g]
      exact br_f (by decide) (And.intro hii (br_t rfl this))
    · rw [g]
      cases e1 : cf_st c i with
      | nil => exact absurd e1 (hl.2.2.2.2.2.1 g)
      | cons j r =>
        have hh : (cf_st c i).head? = some j := by rw [e1]; rfl
        obtain ⟨_, h2, _, h4⟩ := cf_head hh
        rw [e1] at q1 q2 hlen
        rw [List.length_cons] at q1 hlen
        have eh : f_height - 1 = nI r.length := by rw [q1, nI_pred]
        have ehi : vp_in (nI r.length) 20 := vp_in_nI (by omega) (by decide)
        have ep : a_pile (nI r.length).toNatClampNeg = nI j := by rw [nI_clamp (by omega)]; exact q2.1
        refine br_f (by decide) (And.intro hii (br_f (by decide) (And.intro hii (br_f (by decide) (And.intro hii (br_t rfl (nm_r eh ?_)))))))
        rw [ep]
        refine And.intro ehi (And.intro hii (nm_r (e' := upd a_opens i (nI j)) rfl (And.intro ehi (And.intro (vp_in_nI (by omega) (by decide)) (nm_r (e' := upd (upd a_closes i (-1)) j (nI i)) (by rw [nI_clamp (by omega)]) (nm_r (e' := nI (i + 1)) (nI_1 i) ?_))))))
        refine ih (i + 1) (by omega) n (by omega) (f_lines, nI r.length, f_steps, f_last, f_ending, a_inputs, a_sorts, a_variables, a_numbers, a_firsts, a_seconds, a_pile, upd (upd a_closes i (-1)) j (nI i), upd a_others i (-1), upd a_opens i (nI j), a_values, a_times, a_counts) (py_mk hp1) (pr_mk ?_)
        rw [cf_st_5 g, e1, List.tail_cons]
        refine ⟨rfl, q2.2, ?_, ?_⟩
        · intro j' hj'
          constructor
          · by_cases e : j' = j
            · subst e
              rw [pk_us, cf_clo, if_pos ⟨g, hh⟩]; rfl
            · rw [pk_un e, cf_clo, if_neg (fun z => by rw [hh] at z; exact e (Option.some.inj z.2).symm)]
              by_cases e' : j' = i
              · subst e'
                rw [pk_us, cf_clo_n (by omega)]; rfl
              · rw [pk_un e']; exact (q3 j' (by omega)).1
          · rw [cf_oth, if_neg (fun z => by omega)]
            by_cases e : j' = i
            · subst e
              rw [pk_us, cf_oth_0 (by omega)]; rfl
            · rw [pk_un e]; exact (q3 j' (by omega)).2
        · intro m' hm' hk'
          by_cases e : m' = i
          · subst e
            rw [pk_us, h4]
          · rw [pk_un e]; exact q4 m' (by omega) hk'
theorem ys_pair (w : cf_wf c) {post : SY → Prop} (H : ∀ v, py_I c v → pr_I c (cf_n c) v → post v) (v : SY) (h : py_I c v) : wpY_pair post v := by
  obtain ⟨f_lines, f_height, f_steps, f_last, f_ending, a_inputs, a_sorts, a_variables, a_numbers, a_firsts, a_seconds, a_pile, a_closes, a_others, a_opens, a_values, a_times, a_counts⟩ := v
  refine ⟨cf_n c + 1, ys_pr (c := c) w H (cf_n c) 0 (by omega) (cf_n c + 1) (by omega) (f_lines, 0, f_steps, f_last, f_ending, a_inputs, a_sorts, a_variables, a_numbers, a_firsts, a_seconds, a_pile, a_closes, a_others, a_opens, a_values, a_times, a_counts) (py_mk (py_el h)) (pr_mk ?_)⟩
  exact ⟨rfl, trivial, fun j hj => absurd hj (Nat.not_lt_zero _), fun m hm => absurd hm (Nat.not_lt_zero _)⟩
end
end
section
/-! the reference carries the lines out -/
def mc_tl (c : CF) (K : Nat) : List Nat := (mc_fl c K).map (fun T => mt c T.1 T.2)
def mc_pt (c : CF) (K : Nat) : Nat → List Nat
  | 0 => []
  | x + 1 => mt c (K + 1) x :: mc_pt c K x
def ys_S (vl : Nat → Int32) (tm : Nat → Nat) (TL : List Nat) (v : SY) : Prop := match v with
  | (f_lines, f_height, f_steps, f_last, f_ending, a_inputs, a_sorts, a_variables, a_numbers, a_firsts, a_seconds, a_pile, a_closes, a_others, a_opens, a_values, a_times, a_counts) => f_ending = 0 ∧ f_steps = nI TL.length ∧ TL.length ≤ 400 ∧ (∀ x, x < 5 → a_values x = vl x) ∧ (∀ x, x < 5 → a_times x = nI (tm x) ∧ tm x ≤ TL.length) ∧ (∀ t, t < 402 → a_counts t = nI (TL.count t)) ∧ (∃ l, f_last = nI l ∧ l ≤ 400 ∧ (∀ t, t ∈ TL → t ≤ l) ∧ (l = 0 ∨ l ∈ TL))
def yb_I (c : CF) (v : SY) : Prop := py_I c v ∧ pr_I c (cf_n c) v
def yt_I (c : CF) (v : SY) : Prop := yb_I c v ∧ (match v with
  | (f_lines, f_height, f_steps, f_last, f_ending, a_inputs, a_sorts, a_variables, a_numbers, a_firsts, a_seconds, a_pile, a_closes, a_others, a_opens, a_values, a_times, a_counts) => f_ending = 1) ∧ ∃ K, 400 < mc_cnt c K
def yw_I (c : CF) (K : Nat) (v : SY) : Prop := yb_I c v ∧ ys_S (mv c K) (mt c K) (mc_tl c K) v
section
variable {c : CF}
theorem mc_tl_l (K : Nat) : (mc_tl c K).length = mc_cnt c K := List.length_map _
theorem mc_pt_l (K : Nat) : ∀ x, (mc_pt c K x).length = x
  | 0 => rfl
  | x + 1 => by rw [mc_pt, List.length_cons, mc_pt_l K x]
/-- where all five are fired -/
theorem mc_tl_5 {K : Nat} (h : ∀ y, y < 5 → mr c K y = true) : mc_tl c (K + 1) = mc_pt c K 5 ++ mc_tl c K := by
  have e : mc_new c K = [(K + 1, 4), (K + 1, 3), (K + 1, 2), (K + 1, 1), (K + 1, 0)] := by
    rw [mc_new]
    simp only [List.filter_cons, h 0 (by omega), h 1 (by omega), h 2 (by omega), h 3 (by omega), h 4 (by omega), List.filter_nil, if_true, List.map_cons, List.map_nil]
  rw [mc_tl, mc_fl, e, List.map_append]
  rfl
theorem mc_tl_1 {K y : Nat} (hy : y < 5) (h : ∀ x, mr c K x = (x == y)) : mc_tl c (K + 1) = mt c (K + 1) y :: mc_tl c K := by
  have e : mc_new c K = [(K + 1, y)] := by
    rw [mc_new]
    have : (fun x => mr c K x) = (fun x => x == y) := funext h
    rw [this]
    rcases (by omega : y = 0 ∨ y = 1 ∨ y = 2 ∨ y = 3 ∨ y = 4) with rfl | rfl | rfl | rfl | rfl <;> rfl
  rw [mc_tl, mc_fl, e, List.map_append]
  rfl
theorem mc_tl_c {K t : Nat} : (mc_tl c K).count t = mc_ct c K t := by
  rw [mc_tl, mc_ct]
  induction mc_fl c K with
  | nil => rfl
  | cons a l ih =>
    rw [List.map_cons, List.count_cons, ih]
    by_cases h : mt c a.1 a.2 = t
    · rw [List.filter_cons_of_pos (by simpa using h), List.length_cons, if_pos (by simpa using h)]
    · rw [List.filter_cons_of_neg (by simpa using h), if_neg (by simpa using h), Nat.add_zero]
variable {f_lines f_height f_steps f_last f_ending : Int32} {a_inputs a_sorts a_variables a_numbers a_firsts a_seconds a_pile a_closes a_others a_opens a_values a_times a_counts : Nat → Int32}
theorem yb_el (h : yb_I c (f_lines, f_height, f_steps, f_last, f_ending, a_inputs, a_sorts, a_variables, a_numbers, a_firsts, a_seconds, a_pile, a_closes, a_others, a_opens, a_values, a_times, a_counts)) : (f_lines = nI (cf_n c) ∧ a_inputs = c.2.2.2.2.2.2 ∧ a_sorts = c.2.1 ∧ a_variables = c.2.2.1 ∧ a_numbers = c.2.2.2.1 ∧ a_firsts = c.2.2.2.2.1 ∧ a_seconds = c.2.2.2.2.2.1) ∧ (f_height = nI (cf_st c (cf_n c)).length ∧ sk_a a_pile (cf_st c (cf_n c)) ∧ (∀ j, j < cf_n c → a_closes j = op_v (cf_clo c (cf_n c) j) ∧ a_others j = op_v (cf_oth c (cf_n c) j)) ∧ (∀ m, m < cf_n c → cf_kd c m = 3 ∨ cf_kd c m = 5 → a_opens m = nI (cf_op c m))) := h
theorem yb_mk (h : (f_lines = nI (cf_n c) ∧ a_inputs = c.2.2.2.2.2.2 ∧ a_sorts = c.2.1 ∧ a_variables = c.2.2.1 ∧ a_numbers = c.2.2.2.1 ∧ a_firsts = c.2.2.2.2.1 ∧ a_seconds = c.2.2.2.2.2.1) ∧ (f_height = nI (cf_st c (cf_n c)).length ∧ sk_a a_pile (cf_st c (cf_n c)) ∧ (∀ j, j < cf_n c → a_closes j = op_v (cf_clo c (cf_n c) j) ∧ a_others j = op_v (cf_oth c (cf_n c) j)) ∧ (∀ m, m < cf_n c → cf_kd c m = 3 ∨ cf_kd c m = 5 → a_opens m = nI (cf_op c m)))) : yb_I c (f_lines, f_height, f_steps, f_last, f_ending, a_inputs, a_sorts, a_variables, a_numbers, a_firsts, a_seconds, a_pile, a_closes, a_others, a_opens, a_values, a_times, a_counts) := h
theorem ys_step {post : SY → Prop} {vl : Nat → Int32} {tm : Nat → Nat} {TL : List Nat} {y d : Nat} (hy : y < 5) (hd : d ≤ TL.length)
    (H1 : TL.length = 400 → ∀ v, yb_I c v → (match v with | (f_lines, f_height, f_steps, f_last, f_ending, a_inputs, a_sorts, a_variables, a_numbers, a_firsts, a_seconds, a_pile, a_closes, a_others, a_opens, a_values, a_times, a_counts) => f_ending = 1) → post v)
    (H2 : ∀ v, yb_I c v → ys_S vl (fun x => if x = y then d + 1 else tm x) ((d + 1) :: TL) v → post v)
    (v : SY) (h : yb_I c v) (hs : ys_S vl tm TL v) : wpY_step post v (nI y) (nI d) := by
  obtain ⟨f_lines, f_height, f_steps, f_last, f_ending, a_inputs, a_sorts, a_variables, a_numbers, a_firsts, a_seconds, a_pile, a_closes, a_others, a_opens, a_values, a_times, a_counts⟩ := v
  obtain ⟨s1, s2, s3, s4, s5, s6, l, l1, l2, l3, l4⟩ := hs
  by_cases h4 : TL.length = 400
  · exact br_t (by rw [s2, h4]; rfl) (H1 h4 _ (yb_mk (yb_el h)) rfl)
  · have hyi : vp_in (nI y) 5 := vp_in_nI hy (by decide)
    have hyc : (nI y).toNatClampNeg = y := nI_clamp (by omega)
    have hdi : vp_in (nI (d + 1)) 402 := vp_in_nI (by omega) (by decide)
    have hdc : (nI (d + 1)).toNatClampNeg = d + 1 := nI_clamp (by omega)
    refine br_f (by rw [s2]; exact fun z => h4 ((nI_eq (b := 400) (by omega) (by decide)).mp z)) ?_
    refine nm_r (e' := nI (TL.length + 1)) (by rw [s2]; exact nI_1 _) (nm_r (e' := nI (d + 1)) (nI_1 d) (And.intro hyi (nm_r (e' := upd a_times y (nI (d + 1))) (by rw [hyc]) (And.intro hdi (And.intro hdi (nm_r (e' := upd a_counts (d + 1) (nI (TL.count (d + 1) + 1))) (by rw [hdc, s6 (d + 1) (by omega), nI_1]) ?_))))))
    have hS : ∀ l', f_last = nI l → l' ≤ 400 → (∀ t, t ∈ (d + 1) :: TL → t ≤ l') → (l' = 0 ∨ l' ∈ (d + 1) :: TL) → ys_S vl (fun x => if x = y then d + 1 else tm x) ((d + 1) :: TL) (f_lines, f_height, nI (TL.length + 1), nI l', f_ending, a_inputs, a_sorts, a_variables, a_numbers, a_firsts, a_seconds, a_pile, a_closes, a_others, a_opens, a_values, upd a_times y (nI (d + 1)), upd a_counts (d + 1) (nI (TL.count (d + 1) + 1))) := by
      intro l' _ q1 q2 q3
      refine And.intro s1 (And.intro rfl (And.intro (by rw [List.length_cons]; omega) (And.intro s4 (And.intro ?_ (And.intro ?_ ⟨l', rfl, q1, q2, q3⟩)))))
      · intro x hx
        simp only []
        rw [List.length_cons]
        by_cases e : x = y
        · subst e
          rw [pk_us, if_pos rfl]
          exact ⟨rfl, by omega⟩
        · rw [pk_un e, if_neg e]
          obtain ⟨a, b⟩ := s5 x hx
          exact ⟨a, by omega⟩
      · intro t ht
        rw [List.count_cons]
        by_cases e : t = d + 1
        · subst e
          rw [pk_us, if_pos (by simp)]
        · rw [pk_un e, if_neg (by simpa using fun z : d + 1 = t => e z.symm)]
          exact s6 t ht
    rw [l1]
    by_cases hle : d + 1 ≤ l
    · refine br_t (nI_le hle (by omega)) (H2 _ (yb_mk (yb_el h)) (hS l l1 l2 ?_ ?_))
      · intro t ht
        rcases List.mem_cons.mp ht with rfl | z
        · exact hle
        · exact l3 t z
      · rcases l4 with z | z
        · exact Or.inl z
        · exact Or.inr (List.mem_cons_of_mem _ z)
    · refine br_f (nI_ge (by omega) (by omega)) (H2 _ (yb_mk (yb_el h)) (hS (d + 1) l1 (by omega) ?_ (Or.inr (List.mem_cons_self ..))))
      intro t ht
      rcases List.mem_cons.mp ht with rfl | z
      · exact Nat.le_refl _
      · have := l3 t z
        omega
/-! five steps -/
def uy_ps (post : SY → Prop) (n : Nat) (x1 : Int32) (v : SY) : Prop := match v with
  | (f_lines, f_height, f_steps, f_last, f_ending, a_inputs, a_sorts, a_variables, a_numbers, a_firsts, a_seconds, a_pile, a_closes, a_others, a_opens, a_values, a_times, a_counts) => wY_pass_2 post n x1 f_lines f_height f_steps f_last f_ending a_inputs a_sorts a_variables a_numbers a_firsts a_seconds a_pile a_closes a_others a_opens a_values a_times a_counts
def uy_ch (post : SY → Prop) (x2 : Int32) (n : Nat) (x3 : Int32) (v : SY) : Prop := match v with
  | (f_lines, f_height, f_steps, f_last, f_ending, a_inputs, a_sorts, a_variables, a_numbers, a_firsts, a_seconds, a_pile, a_closes, a_others, a_opens, a_values, a_times, a_counts) => wY_choose_9 post x2 n x3 f_lines f_height f_steps f_last f_ending a_inputs a_sorts a_variables a_numbers a_firsts a_seconds a_pile a_closes a_others a_opens a_values a_times a_counts
def y5_I (c : CF) (K x : Nat) (v : SY) : Prop := yb_I c v ∧ ys_S (mv c (K + 1)) (ti x (mt c (K + 1)) (mt c K)) (mc_pt c K x ++ mc_tl c K) v
theorem y5_0 {K : Nat} (k : cf_ok c) {v : SY} (h5 : ∀ y, y < 5 → mr c K y = true) (he : 1 < me c K) (h : yw_I c K v) : y5_I c K 0 v := by
  refine ⟨h.1, ?_⟩
  obtain ⟨f_lines, f_height, f_steps, f_last, f_ending, a_inputs, a_sorts, a_variables, a_numbers, a_firsts, a_seconds, a_pile, a_closes, a_others, a_opens, a_values, a_times, a_counts⟩ := v
  obtain ⟨_, s1, s2, s3, s4, s5, s6, s7⟩ := h
  refine And.intro s1 (And.intro s2 (And.intro s3 (And.intro ?_ (And.intro s5 (And.intro s6 s7)))))
  intro x hx
  rw [s4 x hx, mv_s, if_pos (h5 x hx), cf_nv]
  rw [me] at he
  rcases cf_cases k (mc_pos k K) with ⟨e, _⟩ | ⟨e, _⟩ | ⟨e, _⟩ | ⟨e, _⟩ | ⟨e, _⟩ | ⟨e, _⟩ | ⟨e, _⟩ | ⟨e, _⟩ | ⟨e, _⟩ | ⟨e, _⟩ <;> simp only [e] <;> omega
theorem y5_5 {K : Nat} {v : SY} (h5 : ∀ y, y < 5 → mr c K y = true) (h : y5_I c K 5 v) : yw_I c (K + 1) v := by
  refine ⟨h.1, ?_⟩
  obtain ⟨f_lines, f_height, f_steps, f_last, f_ending, a_inputs, a_sorts, a_variables, a_numbers, a_firsts, a_seconds, a_pile, a_closes, a_others, a_opens, a_values, a_times, a_counts⟩ := v
  obtain ⟨_, s1, s2, s3, s4, s5, s6, s7⟩ := h
  rw [← mc_tl_5 h5] at s2 s3 s5 s6 s7
  refine And.intro s1 (And.intro s2 (And.intro s3 (And.intro s4 (And.intro ?_ (And.intro s6 s7)))))
  intro x hx
  have := s5 x hx
  rw [ti_t hx] at this
  exact this
/-- one of five -/
theorem y5_step (k : cf_ok c) {K x : Nat} {post : SY → Prop} {z1 z0 : Int32} (hx : x < 5) (h5 : ∀ y, y < 5 → mr c K y = true) (e1 : z1 = nI x) {d : Nat} (e0 : z0 = nI d) (hd : mt c (K + 1) x = d + 1) (hdl : d ≤ mc_cnt c K)
    (Ht : ∀ v, yt_I c v → post v) (H : ∀ v, y5_I c K (x + 1) v → post v) (v : SY) (h : y5_I c K x v) : wpY_step post v z1 z0 := by
  subst e1 e0
  have hlen : (mc_pt c K x ++ mc_tl c K).length = x + mc_cnt c K := by rw [List.length_append, mc_pt_l, mc_tl_l]
  refine ys_step (c := c) hx (by omega) ?_ ?_ v h.1 h.2
  · intro z v hb he
    refine Ht v ⟨hb, he, K + 1, ?_⟩
    rw [hlen] at z
    rw [← mc_tl_l, mc_tl_5 h5, List.length_append, mc_pt_l, mc_tl_l]
    omega
  · intro v hb hs
    refine H v ⟨hb, ?_⟩
    obtain ⟨f_lines, f_height, f_steps, f_last, f_ending, a_inputs, a_sorts, a_variables, a_numbers, a_firsts, a_seconds, a_pile, a_closes, a_others, a_opens, a_values, a_times, a_counts⟩ := v
    obtain ⟨s1, s2, s3, s4, s5, s6, s7⟩ := hs
    rw [← hd] at s2 s3 s5 s6 s7
    refine And.intro s1 (And.intro s2 (And.intro s3 (And.intro s4 (And.intro ?_ (And.intro s6 s7)))))
    intro y hy
    obtain ⟨a, b⟩ := s5 y hy
    simp only [] at a b
    by_cases e : y = x
    · subst e
      rw [if_pos rfl] at a b
      rw [ti_t (by omega)]
      exact ⟨a, b⟩
    · rw [if_neg e] at a b
      have ee : ti (x + 1) (mt c (K + 1)) (mt c K) y = ti x (mt c (K + 1)) (mt c K) y := by
        by_cases g : y < x
        · rw [ti_t g, ti_t (by omega)]
        · rw [ti_f (by omega), ti_f (by omega)]
      rw [ee]
      exact ⟨a, b⟩
theorem ys_ps (k : cf_ok c) {K : Nat} {post : SY → Prop} (h5 : ∀ y, y < 5 → mr c K y = true) (hm : ∀ x, x < 5 → mt c (K + 1) x = mt c K x + 1) (Ht : ∀ v, yt_I c v → post v) (H : ∀ v, yw_I c (K + 1) v → post v) :
    ∀ m x, x + m = 5 → ∀ n, m < n → ∀ v, y5_I c K x v → uy_ps post n (nI x) v := by
  intro m
  induction m with
  | zero =>
    intro x hx n hn v h
    obtain ⟨n, rfl⟩ : ∃ n', n = n' + 1 := ⟨n - 1, by omega⟩
    have : x = 5 := by omega
    subst this
    obtain ⟨f_lines, f_height, f_steps, f_last, f_ending, a_inputs, a_sorts, a_variables, a_numbers, a_firsts, a_seconds, a_pile, a_closes, a_others, a_opens, a_values, a_times, a_counts⟩ := v
    exact br_t (by decide) (H _ (y5_5 h5 h))
  | succ m ih =>
    intro x hx n hn v h
    obtain ⟨n, rfl⟩ : ∃ n', n = n' + 1 := ⟨n - 1, by omega⟩
    obtain ⟨f_lines, f_height, f_steps, f_last, f_ending, a_inputs, a_sorts, a_variables, a_numbers, a_firsts, a_seconds, a_pile, a_closes, a_others, a_opens, a_values, a_times, a_counts⟩ := v
    have hx5 : x < 5 := by omega
    have hxi : vp_in (nI x) 5 := vp_in_nI hx5 (by decide)
    have hxc : (nI x).toNatClampNeg = x := nI_clamp (by omega)
    have he : f_ending = 0 := h.2.1
    have ht : a_times x = nI (mt c K x) := by
      have := (h.2.2.2.2.2.1 x hx5).1
      rw [ti_f (Nat.le_refl _)] at this
      exact this
    refine br_f (lt5' x hx5) (br_t he (And.intro hxi ?_))
    rw [hxc]
    refine y5_step k hx5 h5 rfl ht (hm x hx5) (mt_le k K x hx5) ?_ ?_ (f_lines, f_height, f_steps, f_last, f_ending, a_inputs, a_sorts, a_variables, a_numbers, a_firsts, a_seconds, a_pile, a_closes, a_others, a_opens, a_values, a_times, a_counts) h
    · intro v hv
      obtain ⟨f_lines, f_height, f_steps, f_last, f_ending, a_inputs, a_sorts, a_variables, a_numbers, a_firsts, a_seconds, a_pile, a_closes, a_others, a_opens, a_values, a_times, a_counts⟩ := v
      refine nm_r (e' := nI (x + 1)) (nI_1 x) ?_
      have he : f_ending = 1 := hv.2.1
      obtain ⟨n, rfl⟩ : ∃ n', n = n' + 1 := ⟨n - 1, by omega⟩
      by_cases g : x + 1 = 5
      · rw [g]
        exact br_t (by decide) (Ht _ hv)
      · exact br_f (lt5' (x + 1) (by omega)) (br_f (by rw [he]; decide) (Ht _ hv))
    · intro v hv
      obtain ⟨f_lines, f_height, f_steps, f_last, f_ending, a_inputs, a_sorts, a_variables, a_numbers, a_firsts, a_seconds, a_pile, a_closes, a_others, a_opens, a_values, a_times, a_counts⟩ := v
      refine nm_r (e' := nI (x + 1)) (nI_1 x) ?_
      exact ih (x + 1) (by omega) n (by omega) (f_lines, f_height, f_steps, f_last, f_ending, a_inputs, a_sorts, a_variables, a_numbers, a_firsts, a_seconds, a_pile, a_closes, a_others, a_opens, a_values, a_times, a_counts) hv
theorem ys_pass (k : cf_ok c) {K : Nat} {post : SY → Prop} (h5 : ∀ y, y < 5 → mr c K y = true) (he : 1 < me c K) (hm : ∀ x, x < 5 → mt c (K + 1) x = mt c K x + 1) (Ht : ∀ v, yt_I c v → post v) (H : ∀ v, yw_I c (K + 1) v → post v)
    (v : SY) (h : yw_I c K v) : wpY_pass post v := by
  have h0 := y5_0 k h5 he h
  obtain ⟨f_lines, f_height, f_steps, f_last, f_ending, a_inputs, a_sorts, a_variables, a_numbers, a_firsts, a_seconds, a_pile, a_closes, a_others, a_opens, a_values, a_times, a_counts⟩ := v
  exact ⟨6, ys_ps (c := c) (post := post) k h5 hm Ht H 5 0 rfl 6 (by omega) (f_lines, f_height, f_steps, f_last, f_ending, a_inputs, a_sorts, a_variables, a_numbers, a_firsts, a_seconds, a_pile, a_closes, a_others, a_opens, a_values, a_times, a_counts) h0⟩
theorem ys_pass_t {post : SY → Prop} (v : SY) (h : yt_I c v) (H : post v) : wpY_pass post v := by
  obtain ⟨f_lines, f_height, f_steps, f_last, f_ending, a_inputs, a_sorts, a_variables, a_numbers, a_firsts, a_seconds, a_pile, a_closes, a_others, a_opens, a_values, a_times, a_counts⟩ := v
  have he : f_ending = 1 := h.2.1
  exact ⟨1, br_f (by decide) (br_f (by rw [he]; decide) H)⟩
theorem ys_ch (k : cf_ok c) {K y0 : Nat} {post : SY → Prop} (hy0 : y0 < 5) (h5 : ∀ y, y < 5 → mr c K y = true) (hm : ∀ x, x < 5 → mt c (K + 1) x = max (mt c K x) (mt c K y0) + 1) (Ht : ∀ v, yt_I c v → post v) (H : ∀ v, yw_I c (K + 1) v → post v) :
    ∀ m x, x + m = 5 → ∀ n, m < n → ∀ v, y5_I c K x v → uy_ch post (nI (mt c K y0)) n (nI x) v := by
  intro m
  induction m with
  | zero =>
    intro x hx n hn v h
    obtain ⟨n, rfl⟩ : ∃ n', n = n' + 1 := ⟨n - 1, by omega⟩
    have : x = 5 := by omega
    subst this
    obtain ⟨f_lines, f_height, f_steps, f_last, f_ending, a_inputs, a_sorts, a_variables, a_numbers, a_firsts, a_seconds, a_pile, a_closes, a_others, a_opens, a_values, a_times, a_counts⟩ := v
    exact br_t (by decide) (H _ (y5_5 h5 h))
  | succ m ih =>
    intro x hx n hn v h
    obtain ⟨n, rfl⟩ : ∃ n', n = n' + 1 := ⟨n - 1, by omega⟩
    obtain ⟨f_lines, f_height, f_steps, f_last, f_ending, a_inputs, a_sorts, a_variables, a_numbers, a_firsts, a_seconds, a_pile, a_closes, a_others, a_opens, a_values, a_times, a_counts⟩ := v
    have hx5 : x < 5 := by omega
    have hxi : vp_in (nI x) 5 := vp_in_nI hx5 (by decide)
    have hxc : (nI x).toNatClampNeg = x := nI_clamp (by omega)
    have he : f_ending = 0 := h.2.1
    have ht : a_times x = nI (mt c K x) := by
      have := (h.2.2.2.2.2.1 x hx5).1
      rw [ti_f (Nat.le_refl _)] at this
      exact this
    have b1 := mt_le k K x hx5
    have b2 := mt_le k K y0 hy0
    have b3 : x + mc_cnt c K ≤ 400 := by
      have := h.2.2.2.1
      rw [List.length_append, mc_pt_l, mc_tl_l] at this
      exact this
    have hT : ∀ v, yt_I c v → (match v with | (f_lines, f_height, f_steps, f_last, f_ending, a_inputs, a_sorts, a_variables, a_numbers, a_firsts, a_seconds, a_pile, a_closes, a_others, a_opens, a_values, a_times, a_counts) => ∀ x3_26, x3_26 = nI x + 1 → wY_choose_9 post (nI (mt c K y0)) n x3_26 f_lines f_height f_steps f_last f_ending a_inputs a_sorts a_variables a_numbers a_firsts a_seconds a_pile a_closes a_others a_opens a_values a_times a_counts) := by
      intro v hv
      obtain ⟨f_lines, f_height, f_steps, f_last, f_ending, a_inputs, a_sorts, a_variables, a_numbers, a_firsts, a_seconds, a_pile, a_closes, a_others, a_opens, a_values, a_times, a_counts⟩ := v
      refine nm_r (e' := nI (x + 1)) (nI_1 x) ?_
      have he : f_ending = 1 := hv.2.1
      obtain ⟨n, rfl⟩ : ∃ n', n = n' + 1 := ⟨n - 1, by omega⟩
      by_cases g : x + 1 = 5
      · rw [g]
        exact br_t (by decide) (Ht _ hv)
      · exact br_f (lt5' (x + 1) (by omega)) (br_f (by rw [he]; decide) (Ht _ hv))
    have hG : ∀ v, y5_I c K (x + 1) v → (match v with | (f_lines, f_height, f_steps, f_last, f_ending, a_inputs, a_sorts, a_variables, a_numbers, a_firsts, a_seconds, a_pile, a_closes, a_others, a_opens, a_values, a_times, a_counts) => ∀ x3_26, x3_26 = nI x + 1 → wY_choose_9 post (nI (mt c K y0)) n x3_26 f_lines f_height f_steps f_last f_ending a_inputs a_sorts a_variables a_numbers a_firsts a_seconds a_pile a_closes a_others a_opens a_values a_times a_counts) := by
      intro v hv
      obtain ⟨f_lines, f_height, f_steps, f_last, f_ending, a_inputs, a_sorts, a_variables, a_numbers, a_firsts, a_seconds, a_pile, a_closes, a_others, a_opens, a_values, a_times, a_counts⟩ := v
      refine nm_r (e' := nI (x + 1)) (nI_1 x) ?_
      exact ih (x + 1) (by omega) n (by omega) (f_lines, f_height, f_steps, f_last, f_ending, a_inputs, a_sorts, a_variables, a_numbers, a_firsts, a_seconds, a_pile, a_closes, a_others, a_opens, a_values, a_times, a_counts) hv
    refine br_f (lt5' x hx5) (br_t he (And.intro hxi ?_))
    rw [hxc, ht]
    by_cases g : mt c K x ≤ mt c K y0
    · refine br_t (nI_le g (by omega)) ?_
      refine y5_step k hx5 h5 rfl rfl (d := mt c K y0) ?_ b2 hT hG (f_lines, f_height, f_steps, f_last, f_ending, a_inputs, a_sorts, a_variables, a_numbers, a_firsts, a_seconds, a_pile, a_closes, a_others, a_opens, a_values, a_times, a_counts) h
      rw [hm x hx5, Nat.max_eq_right g]
    · refine br_f (nI_ge (by omega) (by omega)) (And.intro hxi ?_)
      refine y5_step k hx5 h5 rfl rfl (d := mt c K x) ?_ b1 hT hG (f_lines, f_height, f_steps, f_last, f_ending, a_inputs, a_sorts, a_variables, a_numbers, a_firsts, a_seconds, a_pile, a_closes, a_others, a_opens, a_values, a_times, a_counts) h
      rw [hm x hx5, Nat.max_eq_left (by omega)]
theorem ys_choose (k : cf_ok c) {K y0 : Nat} {post : SY → Prop} (hy0 : y0 < 5) (h5 : ∀ y, y < 5 → mr c K y = true) (he : 1 < me c K) (hm : ∀ x, x < 5 → mt c (K + 1) x = max (mt c K x) (mt c K y0) + 1) (Ht : ∀ v, yt_I c v → post v) (H : ∀ v, yw_I c (K + 1) v → post v)
    (v : SY) (h : yw_I c K v) : wpY_choose post v (nI y0) := by
  have h0 := y5_0 k h5 he h
  obtain ⟨f_lines, f_height, f_steps, f_last, f_ending, a_inputs, a_sorts, a_variables, a_numbers, a_firsts, a_seconds, a_pile, a_closes, a_others, a_opens, a_values, a_times, a_counts⟩ := v
  have ht : a_times y0 = nI (mt c K y0) := (h.2.2.2.2.2.1 y0 hy0).1
  refine And.intro (vp_in_nI hy0 (by decide)) (nm_r (e' := nI (mt c K y0)) (by rw [nI_clamp (by omega)]; exact ht) ⟨6, ?_⟩)
  exact ys_ch (c := c) (post := post) k hy0 h5 hm Ht H 5 0 rfl 6 (by omega) (f_lines, f_height, f_steps, f_last, f_ending, a_inputs, a_sorts, a_variables, a_numbers, a_firsts, a_seconds, a_pile, a_closes, a_others, a_opens, a_values, a_times, a_counts) h0
theorem ys_choose_t {post : SY → Prop} {y0 : Nat} (hy0 : y0 < 5) (v : SY) (h : yt_I c v) (H : post v) : wpY_choose post v (nI y0) := by
  obtain ⟨f_lines, f_height, f_steps, f_last, f_ending, a_inputs, a_sorts, a_variables, a_numbers, a_firsts, a_seconds, a_pile, a_closes, a_others, a_opens, a_values, a_times, a_counts⟩ := v
  have he : f_ending = 1 := h.2.1
  exact And.intro (vp_in_nI hy0 (by decide)) (nm_e ⟨1, br_f (by decide) (br_f (by rw [he]; decide) H)⟩)
end
end
section
/-! the reference: a line, and all of them -/
def yl_I (c : CF) (K i : Nat) (v : SY) : Prop := yw_I c K v ∧ mi c K = i ∧ (mf c K = 0 ∨ (i < cf_n c ∧ cf_kd c i = 5 ∧ cf_kd c (cf_op c i) = 2))
def yo_I (c : CF) (ending steps last : Int32) (values times counts : Nat → Int32) : Prop :=
  (cf_st c (cf_n c) ≠ [] ∧ ending = 2) ∨ (cf_st c (cf_n c) = [] ∧ ((ending = 0 ∧ ∃ K, cf_n c ≤ mi c K ∧ mc_cnt c K ≤ 400 ∧ steps = nI (mc_cnt c K) ∧ (∀ x, x < 5 → values x = mv c K x ∧ times x = nI (mt c K x)) ∧ (∀ t, t < 402 → counts t = nI (mc_ct c K t)) ∧
    ∃ l, last = nI l ∧ l ≤ 400 ∧ (∀ t, 0 < mc_ct c K t → t ≤ l) ∧ (l = 0 ∨ 0 < mc_ct c K l)) ∨ (ending = 1 ∧ ∃ K, 400 < mc_cnt c K)))
section
variable {c : CF}
theorem mk5 {K e : Nat} (he : cf_ek c (mi c K) (mf c K) = e) (h : e = 2 ∨ e = 4 ∨ e = 5 ∨ e = 6 ∨ e = 7 ∨ e = 8) : ∀ y, y < 5 → mr c K y = true := by
  intro y hy
  rw [mr, cf_fr_e he]
  rcases h with rfl | rfl | rfl | rfl | rfl | rfl <;> simpa using hy
theorem mkP {K e : Nat} (he : cf_ek c (mi c K) (mf c K) = e) (h : e = 4 ∨ e = 6 ∨ e = 7 ∨ e = 8) : ∀ x, x < 5 → mt c (K + 1) x = mt c K x + 1 := by
  intro x hx
  rw [mt_s, if_pos (mk5 he (by omega) x hx), cf_nt]
  rcases h with rfl | rfl | rfl | rfl <;> simp only [he]
theorem mkC {K e : Nat} (he : cf_ek c (mi c K) (mf c K) = e) (h : e = 2 ∨ e = 5) : ∀ x, x < 5 → mt c (K + 1) x = max (mt c K x) (mt c K (cf_va c (mi c K))) + 1 := by
  intro x hx
  rw [mt_s, if_pos (mk5 he (by omega) x hx), cf_nt]
  rcases h with rfl | rfl <;> simp only [he]
theorem mkV {K e : Nat} (he : cf_ek c (mi c K) (mf c K) = e) (h : e = 2 ∨ e = 4 ∨ e = 5 ∨ e = 6 ∨ e = 7 ∨ e = 8) : ∀ x, x < 5 → mv c (K + 1) x = mv c K x := by
  intro x hx
  rw [mv_s, if_pos (mk5 he h x hx), cf_nv]
  rcases h with rfl | rfl | rfl | rfl | rfl | rfl <;> simp only [he]
theorem cnt5 {K : Nat} (h : ∀ y, y < 5 → mr c K y = true) : mc_cnt c (K + 1) = mc_cnt c K + 5 := by
  rw [← mc_tl_l, mc_tl_5 h, List.length_append, mc_pt_l, mc_tl_l]; omega
variable {f_lines f_height f_steps f_last f_ending : Int32} {a_inputs a_sorts a_variables a_numbers a_firsts a_seconds a_pile a_closes a_others a_opens a_values a_times a_counts : Nat → Int32}
theorem yt_b {v : SY} (h : yt_I c v) : yb_I c v := h.1
theorem ys_round (k : cf_ok c) {K j : Nat} {post : Int32 → SY → Prop} (hj : j < cf_n c) (hk : cf_kd c j = 4) (he : me c K = 4 ∨ me c K = 7) (h1 : mi c (K + 1) = j) (h2 : mf c (K + 1) = 1)
    (Ht : ∀ r v, yt_I c v → post r v) (H : ∀ v K' i', yl_I c K' i' v → mc_cnt c K + 10 ≤ mc_cnt c K' → post (nI i') v) (v : SY) (h : yw_I c K v) : wpY_round post v (nI j) := by
  have h20 := k.1.1
  obtain ⟨va1, va2⟩ := (k.1.2 j hj).2.2.1 (by omega) (by omega)
  have hji : vp_in (nI j) 20 := vp_in_nI (by omega) (by decide)
  have hjc : (nI j).toNatClampNeg = j := nI_clamp (by omega)
  have hvi : vp_in (nI (cf_va c j)) 5 := vp_in_nI (by omega) (by decide)
  have hvc : (nI (cf_va c j)).toNatClampNeg = cf_va c j := nI_clamp (by omega)
  obtain ⟨c1, c2, c3, c4, c5, c6⟩ := cf_cl_o k hj (Or.inr hk)
  have hclo : cf_clo c (cf_n c) j = some (cf_cl c j) := cf_clo_e c3 c4 _ c2
  have ek1 : cf_ek c (mi c (K + 1)) (mf c (K + 1)) = 5 := by rw [h1, h2]; exact (cf_ek_4 hj hk).2
  have m0 : ∀ y, y < 5 → mr c K y = true := by
    rcases he with e | e
    · exact mk5 e (by omega)
    · exact mk5 e (by omega)
  have p0 : ∀ x, x < 5 → mt c (K + 1) x = mt c K x + 1 := by
    rcases he with e | e
    · exact mkP e (by omega)
    · exact mkP e (by omega)
  have m1 := mk5 ek1 (by omega)
  have q1 := cnt5 m0
  have q2 := cnt5 m1
  have eV : ∀ v : SY, yb_I c v → (match v with | (f_lines, f_height, f_steps, f_last, f_ending, a_inputs, a_sorts, a_variables, a_numbers, a_firsts, a_seconds, a_pile, a_closes, a_others, a_opens, a_values, a_times, a_counts) => a_variables (nI j).toNatClampNeg = nI (cf_va c j)) := by
    intro v hb
    obtain ⟨f_lines, f_height, f_steps, f_last, f_ending, a_inputs, a_sorts, a_variables, a_numbers, a_firsts, a_seconds, a_pile, a_closes, a_others, a_opens, a_values, a_times, a_counts⟩ := v
    have hb := (yb_el hb).1
    show a_variables (nI j).toNatClampNeg = nI (cf_va c j)
    rw [hjc, hb.2.2.2.1]; exact va1
  have eC : ∀ v : SY, yb_I c v → (match v with | (f_lines, f_height, f_steps, f_last, f_ending, a_inputs, a_sorts, a_variables, a_numbers, a_firsts, a_seconds, a_pile, a_closes, a_others, a_opens, a_values, a_times, a_counts) => a_closes (nI j).toNatClampNeg = nI (cf_cl c j)) := by
    intro v hb
    obtain ⟨f_lines, f_height, f_steps, f_last, f_ending, a_inputs, a_sorts, a_variables, a_numbers, a_firsts, a_seconds, a_pile, a_closes, a_others, a_opens, a_values, a_times, a_counts⟩ := v
    have hb := (yb_el hb).2
    show a_closes (nI j).toNatClampNeg = nI (cf_cl c j)
    rw [hjc, (hb.2.2.1 j hj).1, hclo]; rfl
  obtain ⟨f_lines, f_height, f_steps, f_last, f_ending, a_inputs, a_sorts, a_variables, a_numbers, a_firsts, a_seconds, a_pile, a_closes, a_others, a_opens, a_values, a_times, a_counts⟩ := v
  refine ys_pass k m0 (by rw [me] at he ⊢; omega) p0 ?_ ?_ (f_lines, f_height, f_steps, f_last, f_ending, a_inputs, a_sorts, a_variables, a_numbers, a_firsts, a_seconds, a_pile, a_closes, a_others, a_opens, a_values, a_times, a_counts) h
  · intro v hv
    have e1 := eV v hv.1
    obtain ⟨f_lines, f_height, f_steps, f_last, f_ending, a_inputs, a_sorts, a_variables, a_numbers, a_firsts, a_seconds, a_pile, a_closes, a_others, a_opens, a_values, a_times, a_counts⟩ := v
    refine And.intro hji ?_
    rw [show a_variables (nI j).toNatClampNeg = nI (cf_va c j) from e1]
    refine ys_choose_t (by omega) (f_lines, f_height, f_steps, f_last, f_ending, a_inputs, a_sorts, a_variables, a_numbers, a_firsts, a_seconds, a_pile, a_closes, a_others, a_opens, a_values, a_times, a_counts) hv ?_
    refine And.intro hji ?_
    rw [show a_variables (nI j).toNatClampNeg = nI (cf_va c j) from e1]
    refine And.intro hvi (br_c (fun _ => ?_) (fun _ => Ht _ _ hv))
    refine ys_pass_t (f_lines, f_height, f_steps, f_last, f_ending, a_inputs, a_sorts, a_variables, a_numbers, a_firsts, a_seconds, a_pile, a_closes, a_others, a_opens, a_values, a_times, a_counts) hv ?_
    exact And.intro hji (Ht _ _ hv)
  · intro v hv
    have e1 := eV v hv.1
    obtain ⟨f_lines, f_height, f_steps, f_last, f_ending, a_inputs, a_sorts, a_variables, a_numbers, a_firsts, a_seconds, a_pile, a_closes, a_others, a_opens, a_values, a_times, a_counts⟩ := v
    refine And.intro hji ?_
    rw [show a_variables (nI j).toNatClampNeg = nI (cf_va c j) from e1]
    have hC := mkC ek1 (by omega)
    rw [h1] at hC
    refine ys_choose k (K := K + 1) (by omega) m1 (by rw [me, ek1]; omega) hC ?_ ?_ (f_lines, f_height, f_steps, f_last, f_ending, a_inputs, a_sorts, a_variables, a_numbers, a_firsts, a_seconds, a_pile, a_closes, a_others, a_opens, a_values, a_times, a_counts) hv
    · intro v hv
      have e1 := eV v hv.1
      obtain ⟨f_lines, f_height, f_steps, f_last, f_ending, a_inputs, a_sorts, a_variables, a_numbers, a_firsts, a_seconds, a_pile, a_closes, a_others, a_opens, a_values, a_times, a_counts⟩ := v
      refine And.intro hji ?_
      rw [show a_variables (nI j).toNatClampNeg = nI (cf_va c j) from e1]
      refine And.intro hvi (br_c (fun _ => ?_) (fun _ => Ht _ _ hv))
      refine ys_pass_t (f_lines, f_height, f_steps, f_last, f_ending, a_inputs, a_sorts, a_variables, a_numbers, a_firsts, a_seconds, a_pile, a_closes, a_others, a_opens, a_values, a_times, a_counts) hv ?_
      exact And.intro hji (Ht _ _ hv)
    · intro v hv
      have e1 := eV v hv.1
      obtain ⟨f_lines, f_height, f_steps, f_last, f_ending, a_inputs, a_sorts, a_variables, a_numbers, a_firsts, a_seconds, a_pile, a_closes, a_others, a_opens, a_values, a_times, a_counts⟩ := v
      refine And.intro hji ?_
      rw [show a_variables (nI j).toNatClampNeg = nI (cf_va c j) from e1]
      refine And.intro hvi ?_
      rw [hvc]
      have ev : a_values (cf_va c j) = mv c (K + 1) (cf_va c j) := by
        rw [← mkV ek1 (by omega) (cf_va c j) (by omega)]
        exact hv.2.2.2.2.1 (cf_va c j) (by omega)
      have hz : mz c (K + 1) = decide (mv c (K + 1) (cf_va c j) = 0) := by rw [mz, h1]
      by_cases z : a_values (cf_va c j) = 0
      · refine br_t z ?_
        have hz1 : mz c (K + 1) = true := by rw [hz, ← ev]; exact decide_eq_true z
        have n2 : mi c (K + 2) = cf_cl c j ∧ mf c (K + 2) = 1 := by
          have := cf_nx_5t ek1
          rw [h1] at this
          refine ⟨?_, ?_⟩
          · show mi c (K + 1 + 1) = _
            rw [mi_s, hz1, h1, this]
          · show mf c (K + 1 + 1) = _
            rw [mf_s, hz1, h1, this]
        have ek2 : cf_ek c (mi c (K + 2)) (mf c (K + 2)) = 8 := by
          rw [n2.1, n2.2]; exact (cf_ek_7 c2 c3 (by rw [c6]; exact hk)).2
        have m2 := mk5 ek2 (by omega)
        have q3 := cnt5 m2
        refine ys_pass k (K := K + 2) m2 (by rw [me, ek2]; omega) (mkP ek2 (by omega)) ?_ ?_ (f_lines, f_height, f_steps, f_last, f_ending, a_inputs, a_sorts, a_variables, a_numbers, a_firsts, a_seconds, a_pile, a_closes, a_others, a_opens, a_values, a_times, a_counts) hv
        · intro v hv
          obtain ⟨f_lines, f_height, f_steps, f_last, f_ending, a_inputs, a_sorts, a_variables, a_numbers, a_firsts, a_seconds, a_pile, a_closes, a_others, a_opens, a_values, a_times, a_counts⟩ := v
          exact And.intro hji (Ht _ _ hv)
        · intro v hv
          have e2 := eC v hv.1
          obtain ⟨f_lines, f_height, f_steps, f_last, f_ending, a_inputs, a_sorts, a_variables, a_numbers, a_firsts, a_seconds, a_pile, a_closes, a_others, a_opens, a_values, a_times, a_counts⟩ := v
          refine And.intro hji ?_
          rw [show a_closes (nI j).toNatClampNeg = nI (cf_cl c j) from e2, nI_1]
          have n3 : mi c (K + 3) = cf_cl c j + 1 ∧ mf c (K + 3) = 0 := by
            have := cf_nx_e (z := mz c (K + 2)) ek2
            refine ⟨?_, ?_⟩
            · show mi c (K + 2 + 1) = _
              rw [mi_s, this, n2.1] <;> rfl
            · show mf c (K + 2 + 1) = _
              rw [mf_s, this] <;> rfl
          exact H _ (K + 3) _ ⟨hv, n3.1, Or.inl n3.2⟩ (by show _ ≤ mc_cnt c (K + 2 + 1); rw [q3]; show _ ≤ mc_cnt c (K + 1 + 1) + 5; omega)
      · refine br_f z ?_
        have hz1 : mz c (K + 1) = false := by rw [hz, ← ev]; exact decide_eq_false z
        have n2 : mi c (K + 2) = j + 1 ∧ mf c (K + 2) = 0 := by
          have := cf_nx_5f ek1
          rw [h1] at this
          refine ⟨?_, ?_⟩
          · show mi c (K + 1 + 1) = _
            rw [mi_s, hz1, h1, this]
          · show mf c (K + 1 + 1) = _
            rw [mf_s, hz1, h1, this]
        rw [nI_1]
        exact H _ (K + 2) _ ⟨hv, n2.1, Or.inl n2.2⟩ (by show _ ≤ mc_cnt c (K + 1 + 1); omega)
/-- a line that fires one variable -/
theorem ys_S1 (k : cf_ok c) {K y d : Nat} {post : SY → Prop} (hy : y < 5) (hr : ∀ x, mr c K x = (x == y)) (hd : mt c (K + 1) y = d + 1) (hdl : d ≤ mc_cnt c K) (Ht : ∀ v, yt_I c v → post v) (H : ∀ v, yw_I c (K + 1) v → post v)
    (v : SY) (hb : yb_I c v) (hs : ys_S (mv c (K + 1)) (mt c K) (mc_tl c K) v) : wpY_step post v (nI y) (nI d) := by
  have htl := mc_tl_1 hy hr
  refine ys_step (c := c) hy (by rw [mc_tl_l]; exact hdl) ?_ ?_ v hb hs
  · intro z v hb he
    refine Ht v ⟨hb, he, K + 1, ?_⟩
    rw [← mc_tl_l, htl, List.length_cons]
    omega
  · intro v hb hs
    refine H v ⟨hb, ?_⟩
    obtain ⟨f_lines, f_height, f_steps, f_last, f_ending, a_inputs, a_sorts, a_variables, a_numbers, a_firsts, a_seconds, a_pile, a_closes, a_others, a_opens, a_values, a_times, a_counts⟩ := v
    rw [← hd, ← htl] at hs
    obtain ⟨s1, s2, s3, s4, s5, s6, s7⟩ := hs
    refine And.intro s1 (And.intro s2 (And.intro s3 (And.intro s4 (And.intro ?_ (And.intro s6 s7)))))
    intro x hx
    obtain ⟨a, b⟩ := s5 x hx
    simp only [] at a b
    have e : (if x = y then mt c (K + 1) y else mt c K x) = mt c (K + 1) x := by
      by_cases g : x = y
      · rw [if_pos g, g]
      · rw [if_neg g, mt_s, hr, if_neg (by simpa using g)]
    rw [e] at a b
    exact ⟨a, b⟩
theorem ys_result {post : Int32 → Prop} {p a b : Int32} (h0 : 0 ≤ p) (h4 : p ≤ 4) (H : post (cf_calc p a b)) : wpY_result post (f_lines, f_height, f_steps, f_last, f_ending, a_inputs, a_sorts, a_variables, a_numbers, a_firsts, a_seconds, a_pile, a_closes, a_others, a_opens, a_values, a_times, a_counts) p a b := by
  obtain ⟨j, hj, rfl⟩ := nI_of2 (M := 4) (n := 4) (by decide) (Int32.not_lt.mpr h0) h4
  rcases (by omega : j = 0 ∨ j = 1 ∨ j = 2 ∨ j = 3 ∨ j = 4) with rfl | rfl | rfl | rfl | rfl
  · exact br_f (by decide) (br_t rfl H)
  · exact br_f (by decide) (br_f (by decide) (br_t rfl H))
  · exact br_f (by decide) (br_f (by decide) (br_f (by decide) H))
  · refine br_t (by decide) (br_t rfl ?_)
    have H : post (if b ≤ a then 0 else 1) := H
    by_cases g : b ≤ a
    · rw [if_pos g] at H; exact br_t g H
    · rw [if_neg g] at H; exact br_f g H
  · refine br_t (by decide) (br_f (by decide) ?_)
    have H : post (if a = b then 1 else 0) := H
    by_cases g : a = b
    · rw [if_pos g] at H; exact br_t g H
    · rw [if_neg g] at H; exact br_f g H
theorem yw_J {K : Nat} (h : ∀ x, mr c K x = false) {v : SY} (hw : yw_I c K v) : yw_I c (K + 1) v := by
  have e1 : mv c (K + 1) = mv c K := by funext x; rw [mv_s, h x, if_neg (by decide)]
  have e2 : mt c (K + 1) = mt c K := by funext x; rw [mt_s, h x, if_neg (by decide)]
  have e3 : mc_tl c (K + 1) = mc_tl c K := by
    have : mc_new c K = [] := by
      rw [mc_new, List.filter_eq_nil_iff.mpr, List.map_nil]
      intro x _
      rw [h x]
      decide
    rw [mc_tl, mc_fl, this, List.nil_append]; rfl
  rw [yw_I, e1, e2, e3]
  exact hw
theorem ys_carry (k : cf_ok c) {K i : Nat} {post : Int32 → SY → Prop} (hi : i < cf_n c)
    (Ht : ∀ r v, yt_I c v → post r v) (H : ∀ v K' i', yl_I c K' i' v → (mc_cnt c K + 10 ≤ mc_cnt c K' ∨ (i < i' ∧ mc_cnt c K ≤ mc_cnt c K')) → post (nI i') v) (v : SY) (h : yl_I c K i v) : wpY_carry post v (nI i) := by
  have h20 := k.1.1
  obtain ⟨hw, hK, hf⟩ := h
  have hl := k.1.2 i hi
  have hii : vp_in (nI i) 20 := vp_in_nI (by omega) (by decide)
  have hic : (nI i).toNatClampNeg = i := nI_clamp (by omega)
  obtain ⟨f_lines, f_height, f_steps, f_last, f_ending, a_inputs, a_sorts, a_variables, a_numbers, a_firsts, a_seconds, a_pile, a_closes, a_others, a_opens, a_values, a_times, a_counts⟩ := v
  obtain ⟨p1, p2, p3, p4, p5, p6, p7⟩ := (yb_el hw.1).1
  obtain ⟨t1, t2, t3, t4⟩ := (yb_el hw.1).2
  have eK : a_sorts (nI i).toNatClampNeg = nI (cf_kd c i) := by rw [hic, p3]; exact hl.1
  refine And.intro hii (nm_r eK ?_)
  have hcm := mc_cnt_mono k (K := K) 1
  rcases cf_k6 k.1 hi with g | g | g | g | g | g
  · obtain ⟨va1, va2⟩ := hl.2.2.1 (by omega) (by omega)
    have ef : mf c K = 0 := by omega
    have ek : cf_ek c (mi c K) (mf c K) = 0 := by rw [hK, cf_ek_s hi (by omega)]; exact g
    have eV : a_variables (nI i).toNatClampNeg = nI (cf_va c i) := by rw [hic, p4]; exact va1
    have eN : a_numbers (nI i).toNatClampNeg = cf_lb c i := by rw [hic, p5]; rfl
    have hr : ∀ x, mr c K x = (x == cf_va c i) := fun x => by rw [mr, cf_fr_e ek, hK] <;> rfl
    rw [g]
    refine br_t rfl (And.intro hii (And.intro hii ?_))
    rw [eV, eN]
    refine And.intro (vp_in_nI (by omega) (by decide)) (nm_r (e' := upd a_values (cf_va c i) (cf_lb c i)) (by rw [nI_clamp (by omega)]) (And.intro hii ?_))
    have e4 : a_times 4 = nI (mt c K 4) := (hw.2.2.2.2.2.1 4 (by omega)).1
    rw [e4]
    refine ys_S1 k (by omega) hr ?_ (mt_le k K 4 (by omega)) ?_ ?_ (f_lines, f_height, f_steps, f_last, f_ending, a_inputs, a_sorts, a_variables, a_numbers, a_firsts, a_seconds, a_pile, a_closes, a_others, a_opens, upd a_values (cf_va c i) (cf_lb c i), a_times, a_counts) (yb_mk (yb_el hw.1)) ?_
    · rw [mt_s, hr, if_pos (by simp), cf_nt]; simp only [ek]
    · intro v hv
      obtain ⟨f_lines, f_height, f_steps, f_last, f_ending, a_inputs, a_sorts, a_variables, a_numbers, a_firsts, a_seconds, a_pile, a_closes, a_others, a_opens, a_values, a_times, a_counts⟩ := v
      exact Ht _ _ hv
    · intro v hv
      obtain ⟨f_lines, f_height, f_steps, f_last, f_ending, a_inputs, a_sorts, a_variables, a_numbers, a_firsts, a_seconds, a_pile, a_closes, a_others, a_opens, a_values, a_times, a_counts⟩ := v
      rw [nI_1]
      refine H _ (K + 1) (i + 1) ⟨hv, ?_, Or.inl ?_⟩ (Or.inr ⟨by omega, hcm⟩)
      · rw [mi_s, cf_nx_e ek, hK] <;> rfl
      · rw [mf_s, cf_nx_e ek] <;> rfl
    · obtain ⟨s1, s2, s3, s4, s5, s6, s7⟩ := hw.2
      refine And.intro s1 (And.intro s2 (And.intro s3 (And.intro ?_ (And.intro s5 (And.intro s6 s7)))))
      intro x hx
      rw [mv_s, hr, cf_nv]
      simp only [ek]
      by_cases e : x = cf_va c i
      · subst e
        rw [pk_us, if_pos (by simp), hK]
      · rw [pk_un e, if_neg (by simpa using e)]
        exact s4 x hx
  · obtain ⟨va1, va2⟩ := hl.2.2.1 (by omega) (by omega)
    obtain ⟨⟨vc1, vc2⟩, ⟨vd1, vd2⟩, lb1, lb2⟩ := hl.2.2.2.1 g
    have ef : mf c K = 0 := by omega
    have ek : cf_ek c (mi c K) (mf c K) = 1 := by rw [hK, cf_ek_s hi (by omega)]; exact g
    have eV : a_variables (nI i).toNatClampNeg = nI (cf_va c i) := by rw [hic, p4]; exact va1
    have eN : a_numbers (nI i).toNatClampNeg = cf_lb c i := by rw [hic, p5]; rfl
    have eF : a_firsts (nI i).toNatClampNeg = nI (cf_vc c i) := by rw [hic, p6]; exact vc1
    have eS : a_seconds (nI i).toNatClampNeg = nI (cf_vd c i) := by rw [hic, p7]; exact vd1
    have hr : ∀ x, mr c K x = (x == cf_va c i) := fun x => by rw [mr, cf_fr_e ek, hK] <;> rfl
    have hci : vp_in (nI (cf_vc c i)) 5 := vp_in_nI (by omega) (by decide)
    have hcc : (nI (cf_vc c i)).toNatClampNeg = cf_vc c i := nI_clamp (by omega)
    have hdi : vp_in (nI (cf_vd c i)) 5 := vp_in_nI (by omega) (by decide)
    have hdc : (nI (cf_vd c i)).toNatClampNeg = cf_vd c i := nI_clamp (by omega)
    have x1 : a_values (cf_vc c i) = mv c K (cf_vc c i) := hw.2.2.2.2.1 _ (by omega)
    have x2 : a_values (cf_vd c i) = mv c K (cf_vd c i) := hw.2.2.2.2.1 _ (by omega)
    have x3 : a_times (cf_vc c i) = nI (mt c K (cf_vc c i)) := (hw.2.2.2.2.2.1 _ (by omega)).1
    have x4 : a_times (cf_vd c i) = nI (mt c K (cf_vd c i)) := (hw.2.2.2.2.2.1 _ (by omega)).1
    have l1 := mt_le k K (cf_vc c i) (by omega)
    have l2 := mt_le k K (cf_vd c i) (by omega)
    have l3 : mc_cnt c K ≤ 400 := by have := hw.2.2.2.1; rw [mc_tl_l] at this; exact this
    have htt : mt c (K + 1) (cf_va c i) = max (mt c K (cf_vc c i)) (mt c K (cf_vd c i)) + 1 := by
      rw [mt_s, hr, if_pos (by simp), cf_nt]; simp only [ek]; rw [hK]
    rw [g]
    refine br_f (by decide) (br_t rfl (And.intro hii (nm_r eF (And.intro hii (nm_r eS (And.intro hii (And.intro hii (And.intro hci (And.intro hdi ?_)))))))))
    rw [eN, hcc, hdc, x1, x2]
    refine ys_result lb1 lb2 ?_
    rw [eV, x3, x4]
    refine And.intro (vp_in_nI (by omega) (by decide)) (nm_r (e' := upd a_values (cf_va c i) (cf_calc (cf_lb c i) (mv c K (cf_vc c i)) (mv c K (cf_vd c i)))) (by rw [nI_clamp (by omega)]) (And.intro hii (And.intro hci (And.intro hdi ?_))))
    have hS : ys_S (mv c (K + 1)) (mt c K) (mc_tl c K) (f_lines, f_height, f_steps, f_last, f_ending, a_inputs, a_sorts, a_variables, a_numbers, a_firsts, a_seconds, a_pile, a_closes, a_others, a_opens, upd a_values (cf_va c i) (cf_calc (cf_lb c i) (mv c K (cf_vc c i)) (mv c K (cf_vd c i))), a_times, a_counts) := by
      obtain ⟨s1, s2, s3, s4, s5, s6, s7⟩ := hw.2
      refine And.intro s1 (And.intro s2 (And.intro s3 (And.intro ?_ (And.intro s5 (And.intro s6 s7)))))
      intro x hx
      rw [mv_s, hr, cf_nv]
      simp only [ek]
      by_cases e : x = cf_va c i
      · subst e
        rw [pk_us, if_pos (by simp), hK]
      · rw [pk_un e, if_neg (by simpa using e)]
        exact s4 x hx
    have hT : ∀ v, yt_I c v → (match v with | (f_lines, f_height, f_steps, f_last, f_ending, a_inputs, a_sorts, a_variables, a_numbers, a_firsts, a_seconds, a_pile, a_closes, a_others, a_opens, a_values, a_times, a_counts) => (match (f_lines, f_height, f_steps, f_last, f_ending, a_inputs, a_sorts, a_variables, a_numbers, a_firsts, a_seconds, a_pile, a_closes, a_others, a_opens, a_values, a_times, a_counts) with | (f_lines, f_height, f_steps, f_last, f_ending, a_inputs, a_sorts, a_variables, a_numbers, a_firsts, a_seconds, a_pile, a_closes, a_others, a_opens, a_values, a_times, a_counts) => post (nI i + 1) (f_lines, f_height, f_steps, f_last, f_ending, a_inputs, a_sorts, a_variables, a_numbers, a_firsts, a_seconds, a_pile, a_closes, a_others, a_opens, a_values, a_times, a_counts))) := by
      intro v hv
      obtain ⟨f_lines, f_height, f_steps, f_last, f_ending, a_inputs, a_sorts, a_variables, a_numbers, a_firsts, a_seconds, a_pile, a_closes, a_others, a_opens, a_values, a_times, a_counts⟩ := v
      exact Ht _ _ hv
    have hG : ∀ v, yw_I c (K + 1) v → (match v with | (f_lines, f_height, f_steps, f_last, f_ending, a_inputs, a_sorts, a_variables, a_numbers, a_firsts, a_seconds, a_pile, a_closes, a_others, a_opens, a_values, a_times, a_counts) => (match (f_lines, f_height, f_steps, f_last, f_ending, a_inputs, a_sorts, a_variables, a_numbers, a_firsts, a_seconds, a_pile, a_closes, a_others, a_opens, a_values, a_times, a_counts) with | (f_lines, f_height, f_steps, f_last, f_ending, a_inputs, a_sorts, a_variables, a_numbers, a_firsts, a_seconds, a_pile, a_closes, a_others, a_opens, a_values, a_times, a_counts) => post (nI i + 1) (f_lines, f_height, f_steps, f_last, f_ending, a_inputs, a_sorts, a_variables, a_numbers, a_firsts, a_seconds, a_pile, a_closes, a_others, a_opens, a_values, a_times, a_counts))) := by
      intro v hv
      obtain ⟨f_lines, f_height, f_steps, f_last, f_ending, a_inputs, a_sorts, a_variables, a_numbers, a_firsts, a_seconds, a_pile, a_closes, a_others, a_opens, a_values, a_times, a_counts⟩ := v
      show post (nI i + 1) _
      rw [nI_1]
      refine H _ (K + 1) (i + 1) ⟨hv, ?_, Or.inl ?_⟩ (Or.inr ⟨by omega, hcm⟩)
      · rw [mi_s, cf_nx_e ek, hK] <;> rfl
      · rw [mf_s, cf_nx_e ek] <;> rfl
    by_cases hle : mt c K (cf_vc c i) ≤ mt c K (cf_vd c i)
    · refine br_t (nI_le hle (by omega)) (And.intro hdi ?_)
      exact ys_S1 k (by omega) hr (by rw [htt, Nat.max_eq_right hle]) l2 hT hG _ (yb_mk (yb_el hw.1)) hS
    · refine br_f (nI_ge (by omega) (by omega)) (And.intro hci ?_)
      exact ys_S1 k (by omega) hr (by rw [htt, Nat.max_eq_left (by omega)]) l1 hT hG _ (yb_mk (yb_el hw.1)) hS
  · obtain ⟨va1, va2⟩ := hl.2.2.1 (by omega) (by omega)
    have ef : mf c K = 0 := by omega
    have ek : cf_ek c (mi c K) (mf c K) = 2 := by rw [hK, cf_ek_s hi (by omega)]; exact g
    have eV : ∀ v : SY, yb_I c v → (match v with | (f_lines, f_height, f_steps, f_last, f_ending, a_inputs, a_sorts, a_variables, a_numbers, a_firsts, a_seconds, a_pile, a_closes, a_others, a_opens, a_values, a_times, a_counts) => a_variables (nI i).toNatClampNeg = nI (cf_va c i)) := by
      intro v hb
      obtain ⟨f_lines, f_height, f_steps, f_last, f_ending, a_inputs, a_sorts, a_variables, a_numbers, a_firsts, a_seconds, a_pile, a_closes, a_others, a_opens, a_values, a_times, a_counts⟩ := v
      have hb := (yb_el hb).1
      show a_variables (nI i).toNatClampNeg = nI (cf_va c i)
      rw [hic, hb.2.2.2.1]; exact va1
    obtain ⟨c1, c2, c3, c4, c5, c6⟩ := cf_cl_o k hi (Or.inl g)
    have hclo : cf_clo c (cf_n c) i = some (cf_cl c i) := cf_clo_e c3 c4 _ c2
    have hvi : vp_in (nI (cf_va c i)) 5 := vp_in_nI (by omega) (by decide)
    have hvc : (nI (cf_va c i)).toNatClampNeg = cf_va c i := nI_clamp (by omega)
    have m0 := mk5 ek (by omega)
    have hC := mkC ek (by omega)
    rw [hK] at hC
    rw [g]
    refine br_f (by decide) (br_f (by decide) (br_t rfl (And.intro hii ?_)))
    rw [show a_variables (nI i).toNatClampNeg = nI (cf_va c i) from eV _ hw.1]
    refine ys_choose k (K := K) (by omega) m0 (by rw [me, ek]; omega) hC ?_ ?_ (f_lines, f_height, f_steps, f_last, f_ending, a_inputs, a_sorts, a_variables, a_numbers, a_firsts, a_seconds, a_pile, a_closes, a_others, a_opens, a_values, a_times, a_counts) hw
    · intro v hv
      have e1 := eV v hv.1
      obtain ⟨f_lines, f_height, f_steps, f_last, f_ending, a_inputs, a_sorts, a_variables, a_numbers, a_firsts, a_seconds, a_pile, a_closes, a_others, a_opens, a_values, a_times, a_counts⟩ := v
      refine And.intro hii ?_
      rw [show a_variables (nI i).toNatClampNeg = nI (cf_va c i) from e1]
      exact And.intro hvi (br_c (fun _ => And.intro hii (br_c (fun _ => And.intro hii (Ht _ _ hv)) (fun _ => And.intro hii (Ht _ _ hv)))) (fun _ => Ht _ _ hv))
    · intro v hv
      have e1 := eV v hv.1
      obtain ⟨f_lines, f_height, f_steps, f_last, f_ending, a_inputs, a_sorts, a_variables, a_numbers, a_firsts, a_seconds, a_pile, a_closes, a_others, a_opens, a_values, a_times, a_counts⟩ := v
      obtain ⟨t1, t2, t3, t4⟩ := (yb_el hv.1).2
      refine And.intro hii ?_
      rw [show a_variables (nI i).toNatClampNeg = nI (cf_va c i) from e1]
      refine And.intro hvi ?_
      rw [hvc, hic]
      have ev : a_values (cf_va c i) = mv c K (cf_va c i) := by
        rw [← mkV ek (by omega) (cf_va c i) (by omega)]
        exact hv.2.2.2.2.1 (cf_va c i) (by omega)
      have hz : mz c K = decide (mv c K (cf_va c i) = 0) := by rw [mz, hK]
      by_cases z : a_values (cf_va c i) = 0
      · have hz1 : mz c K = true := by rw [hz, ← ev]; exact decide_eq_true z
        refine br_t z (And.intro hii ?_)
        have e2 := (t3 i hi).2
        have e3 := (t3 i hi).1
        rw [hclo] at e3
        cases ho : cf_oth c (cf_n c) i with
        | none =>
          rw [ho] at e2
          refine br_t (by rw [e2]; decide) (And.intro hii ?_)
          rw [e3]
          have nx := cf_nx_2n ek (by rw [hK]; exact ho)
          refine H _ (K + 1) (cf_cl c i) ⟨hv, ?_, Or.inr ⟨c2, c3, by rw [c6]; exact g⟩⟩ (Or.inr ⟨c1, hcm⟩)
          rw [mi_s, hz1, nx, hK]
        | some m =>
          rw [ho] at e2
          obtain ⟨d1, d2, d3⟩ := cf_ot_s k ho
          have d4 := (cf_ot_3 k d1 d2).1
          refine br_f (by rw [e2]; exact nI_pos (by omega)) (And.intro hii ?_)
          rw [e2, show op_v (some m) + 1 = nI (m + 1) from nI_1 m]
          have nx := cf_nx_2t ek (m := m) (by rw [hK]; exact ho)
          refine H _ (K + 1) (m + 1) ⟨hv, ?_, Or.inl ?_⟩ (Or.inr ⟨by omega, hcm⟩)
          · rw [mi_s, hz1, nx]
          · rw [mf_s, hz1, nx]
      · have hz1 : mz c K = false := by rw [hz, ← ev]; exact decide_eq_false z
        refine br_f z ?_
        rw [nI_1]
        have nx := cf_nx_2f ek
        refine H _ (K + 1) (i + 1) ⟨hv, ?_, Or.inl ?_⟩ (Or.inr ⟨by omega, hcm⟩)
        · rw [mi_s, hz1, nx, hK]
        · rw [mf_s, hz1, nx]
  · have ef : mf c K = 0 := by omega
    have ek : cf_ek c (mi c K) (mf c K) = 3 := by rw [hK, cf_ek_s hi (by omega)]; exact g
    obtain ⟨b1, b2, b3, b4, b5, b6, b7⟩ := cf_ot_3 k hi g
    obtain ⟨c1, c2, c3, c4, c5, c6⟩ := cf_cl_o k (j := cf_op c i) (by omega) (Or.inl b3)
    have hclo : cf_clo c (cf_n c) (cf_op c i) = some (cf_cl c (cf_op c i)) := cf_clo_e c3 c4 _ c2
    have eO : a_opens (nI i).toNatClampNeg = nI (cf_op c i) := by rw [hic]; exact t4 i hi (Or.inl g)
    rw [g]
    refine br_f (by decide) (br_f (by decide) (br_f (by decide) (br_t rfl (And.intro hii ?_))))
    rw [eO]
    refine And.intro (vp_in_nI (by omega) (by decide)) ?_
    rw [nI_clamp (by omega), (t3 (cf_op c i) (by omega)).1, hclo]
    refine H _ (K + 1) (cf_cl c (cf_op c i)) ⟨yw_J (fun x => cf_fr_e ek) hw, ?_, Or.inr ⟨c2, c3, by rw [c6]; exact b3⟩⟩ (Or.inr ⟨b6, hcm⟩)
    rw [mi_s, cf_nx_e ek, hK] <;> rfl
  · have ef : mf c K = 0 := by omega
    have ek : cf_ek c (mi c K) (mf c K) = 4 := by rw [hK, ef]; exact (cf_ek_4 hi g).1
    rw [g]
    refine br_f (by decide) (br_f (by decide) (br_f (by decide) (br_f (by decide) (br_t rfl ?_))))
    refine ys_round k hi g (Or.inl ek) (by rw [mi_s, cf_nx_e ek, hK] <;> rfl) (by rw [mf_s, cf_nx_e ek] <;> rfl) ?_ ?_ (f_lines, f_height, f_steps, f_last, f_ending, a_inputs, a_sorts, a_variables, a_numbers, a_firsts, a_seconds, a_pile, a_closes, a_others, a_opens, a_values, a_times, a_counts) hw
    · intro r v hv
      obtain ⟨f_lines, f_height, f_steps, f_last, f_ending, a_inputs, a_sorts, a_variables, a_numbers, a_firsts, a_seconds, a_pile, a_closes, a_others, a_opens, a_values, a_times, a_counts⟩ := v
      exact Ht _ _ hv
    · intro v K' i' hv hc
      obtain ⟨f_lines, f_height, f_steps, f_last, f_ending, a_inputs, a_sorts, a_variables, a_numbers, a_firsts, a_seconds, a_pile, a_closes, a_others, a_opens, a_values, a_times, a_counts⟩ := v
      exact H _ K' i' hv (Or.inl hc)
  · obtain ⟨a1, a2, a3, a4, a5⟩ := cf_cl_c k hi g
    have eO : a_opens (nI i).toNatClampNeg = nI (cf_op c i) := by rw [hic]; exact t4 i hi (Or.inr g)
    have eS : a_sorts (nI (cf_op c i)).toNatClampNeg = nI (cf_kd c (cf_op c i)) := by rw [nI_clamp (by omega), p3]; exact (k.1.2 (cf_op c i) (by omega)).1
    rw [g]
    refine br_f (by decide) (br_f (by decide) (br_f (by decide) (br_f (by decide) (br_f (by decide) (And.intro hii ?_)))))
    rw [eO]
    refine And.intro (vp_in_nI (by omega) (by decide)) ?_
    rw [eS]
    rcases a3 with b | b
    · have ek : cf_ek c (mi c K) (mf c K) = 6 := by rw [hK]; exact cf_ek_6 hi g b
      rw [b]
      refine br_f (by decide) ?_
      refine ys_pass k (mk5 ek (by omega)) (by rw [me, ek]; omega) (mkP ek (by omega)) ?_ ?_ (f_lines, f_height, f_steps, f_last, f_ending, a_inputs, a_sorts, a_variables, a_numbers, a_firsts, a_seconds, a_pile, a_closes, a_others, a_opens, a_values, a_times, a_counts) hw
      · intro v hv
        obtain ⟨f_lines, f_height, f_steps, f_last, f_ending, a_inputs, a_sorts, a_variables, a_numbers, a_firsts, a_seconds, a_pile, a_closes, a_others, a_opens, a_values, a_times, a_counts⟩ := v
        exact Ht _ _ hv
      · intro v hv
        obtain ⟨f_lines, f_height, f_steps, f_last, f_ending, a_inputs, a_sorts, a_variables, a_numbers, a_firsts, a_seconds, a_pile, a_closes, a_others, a_opens, a_values, a_times, a_counts⟩ := v
        rw [nI_1]
        refine H _ (K + 1) (i + 1) ⟨hv, ?_, Or.inl ?_⟩ (Or.inr ⟨by omega, hcm⟩)
        · rw [mi_s, cf_nx_e ek, hK] <;> rfl
        · rw [mf_s, cf_nx_e ek] <;> rfl
    · have ef : mf c K = 0 := by omega
      have ek : cf_ek c (mi c K) (mf c K) = 7 := by rw [hK, ef]; exact (cf_ek_7 hi g b).1
      rw [b]
      refine br_t rfl (And.intro hii ?_)
      refine ys_round k (by omega) b (Or.inr ek) (by rw [mi_s, cf_nx_e ek, hK] <;> rfl) (by rw [mf_s, cf_nx_e ek] <;> rfl) ?_ ?_ (f_lines, f_height, f_steps, f_last, f_ending, a_inputs, a_sorts, a_variables, a_numbers, a_firsts, a_seconds, a_pile, a_closes, a_others, a_opens, a_values, a_times, a_counts) hw
      · intro r v hv
        obtain ⟨f_lines, f_height, f_steps, f_last, f_ending, a_inputs, a_sorts, a_variables, a_numbers, a_firsts, a_seconds, a_pile, a_closes, a_others, a_opens, a_values, a_times, a_counts⟩ := v
        exact Ht _ _ hv
      · intro v K' i' hv hc
        obtain ⟨f_lines, f_height, f_steps, f_last, f_ending, a_inputs, a_sorts, a_variables, a_numbers, a_firsts, a_seconds, a_pile, a_closes, a_others, a_opens, a_values, a_times, a_counts⟩ := v
        exact H _ K' i' hv (Or.inl hc)
end
end
section
section
variable {c : CF}
variable {f_lines f_height f_steps f_last f_ending : Int32} {a_inputs a_sorts a_variables a_numbers a_firsts a_seconds a_pile a_closes a_others a_opens a_values a_times a_counts : Nat → Int32}
def uy_w3 (post : SY → Prop) (n : Nat) (x1 : Int32) (v : SY) : Prop := match v with
  | (f_lines, f_height, f_steps, f_last, f_ending, a_inputs, a_sorts, a_variables, a_numbers, a_firsts, a_seconds, a_pile, a_closes, a_others, a_opens, a_values, a_times, a_counts) => wY_work_95 post n x1 f_lines f_height f_steps f_last f_ending a_inputs a_sorts a_variables a_numbers a_firsts a_seconds a_pile a_closes a_others a_opens a_values a_times a_counts
theorem yo_done (k : cf_ok c) {K : Nat} (hK : cf_n c ≤ mi c K) (h : yw_I c K (f_lines, f_height, f_steps, f_last, f_ending, a_inputs, a_sorts, a_variables, a_numbers, a_firsts, a_seconds, a_pile, a_closes, a_others, a_opens, a_values, a_times, a_counts)) : yo_I c f_ending f_steps f_last a_values a_times a_counts := by
  obtain ⟨_, s1, s2, s3, s4, s5, s6, l, l1, l2, l3, l4⟩ := h
  rw [mc_tl_l] at s2 s3
  refine Or.inr ⟨k.2, Or.inl ⟨s1, K, hK, s3, s2, fun x hx => ⟨s4 x hx, (s5 x hx).1⟩, fun t ht => by rw [s6 t ht, mc_tl_c], l, l1, l2, fun t ht => l3 t ?_, ?_⟩⟩
  · rw [← mc_tl_c] at ht
    exact List.count_pos_iff.mp ht
  · rcases l4 with z | z
    · exact Or.inl z
    · exact Or.inr (by rw [← mc_tl_c]; exact List.count_pos_iff.mpr z)
theorem ys_w3 (k : cf_ok c) {post : SY → Prop} (H : ∀ v, py_I c v → (match v with | (f_lines, f_height, f_steps, f_last, f_ending, a_inputs, a_sorts, a_variables, a_numbers, a_firsts, a_seconds, a_pile, a_closes, a_others, a_opens, a_values, a_times, a_counts) => yo_I c f_ending f_steps f_last a_values a_times a_counts) → post v) :
    ∀ M n, M < n → ∀ K i v, (400 - mc_cnt c K) * 32 + (32 - i) ≤ M → i ≤ cf_n c → yl_I c K i v → uy_w3 post n (nI i) v := by
  have h20 := k.1.1
  have hT : ∀ n r v, yt_I c v → uy_w3 post (n + 1) r v := by
    intro n r v hv
    obtain ⟨f_lines, f_height, f_steps, f_last, f_ending, a_inputs, a_sorts, a_variables, a_numbers, a_firsts, a_seconds, a_pile, a_closes, a_others, a_opens, a_values, a_times, a_counts⟩ := v
    have he : f_ending = 1 := hv.2.1
    refine br_f (by rw [he]; decide) (H _ hv.1.1 ?_)
    exact Or.inr ⟨k.2, Or.inr ⟨he, hv.2.2⟩⟩
  intro M
  induction M with
  | zero =>
    intro n hn K i v hM hi h
    omega
  | succ M ih =>
    intro n hn K i v hM hi h
    obtain ⟨n, rfl⟩ : ∃ n', n = n' + 1 := ⟨n - 1, by omega⟩
    obtain ⟨f_lines, f_height, f_steps, f_last, f_ending, a_inputs, a_sorts, a_variables, a_numbers, a_firsts, a_seconds, a_pile, a_closes, a_others, a_opens, a_values, a_times, a_counts⟩ := v
    have he : f_ending = 0 := h.1.2.1
    have hp := (yb_el h.1.1).1
    have h4 : mc_cnt c K ≤ 400 := by have := h.1.2.2.2.1; rw [mc_tl_l] at this; exact this
    refine br_t he ?_
    by_cases hi' : i < cf_n c
    · refine br_f (by rw [hp.1]; exact nI_ge hi' (by omega)) ?_
      refine ys_carry k hi' ?_ ?_ (f_lines, f_height, f_steps, f_last, f_ending, a_inputs, a_sorts, a_variables, a_numbers, a_firsts, a_seconds, a_pile, a_closes, a_others, a_opens, a_values, a_times, a_counts) h
      · intro r v hv
        obtain ⟨n, rfl⟩ : ∃ n', n = n' + 1 := ⟨n - 1, by omega⟩
        have := hT n r v hv
        obtain ⟨f_lines, f_height, f_steps, f_last, f_ending, a_inputs, a_sorts, a_variables, a_numbers, a_firsts, a_seconds, a_pile, a_closes, a_others, a_opens, a_values, a_times, a_counts⟩ := v
        exact this
      · intro v K' i' hv hc
        have h4' : mc_cnt c K' ≤ 400 := by
          obtain ⟨f_lines, f_height, f_steps, f_last, f_ending, a_inputs, a_sorts, a_variables, a_numbers, a_firsts, a_seconds, a_pile, a_closes, a_others, a_opens, a_values, a_times, a_counts⟩ := v
          have := hv.1.2.2.2.1; rw [mc_tl_l] at this; exact this
        have hi2 : i' ≤ cf_n c := by
          rw [← hv.2.1]; exact (mc_pos k K').1
        have := ih n (by omega) K' i' v (by omega) hi2 hv
        obtain ⟨f_lines, f_height, f_steps, f_last, f_ending, a_inputs, a_sorts, a_variables, a_numbers, a_firsts, a_seconds, a_pile, a_closes, a_others, a_opens, a_values, a_times, a_counts⟩ := v
        exact this
    · have e : i = cf_n c := by omega
      subst e
      refine br_t (by rw [hp.1]; exact nI_le (Nat.le_refl _) (by omega)) (H _ h.1.1.1 ?_)
      exact yo_done k (K := K) (by rw [h.2.1]; exact Nat.le_refl _) h.1
/-! before the first line -/
def w0_I (c : CF) (z : Int32) (x : Nat) (v : SY) : Prop := yb_I c v ∧ (match v with
  | (f_lines, f_height, f_steps, f_last, f_ending, a_inputs, a_sorts, a_variables, a_numbers, a_firsts, a_seconds, a_pile, a_closes, a_others, a_opens, a_values, a_times, a_counts) => f_steps = 0 ∧ f_last = 0 ∧ f_ending = z ∧ (∀ t, t < 402 → a_counts t = 0) ∧ ∀ y, y < x → a_values y = (if y < 4 then cf_s0 c y else 0) ∧ a_times y = 0)
def uy_w2 (post : SY → Prop) (n : Nat) (x1 : Int32) (v : SY) : Prop := match v with
  | (f_lines, f_height, f_steps, f_last, f_ending, a_inputs, a_sorts, a_variables, a_numbers, a_firsts, a_seconds, a_pile, a_closes, a_others, a_opens, a_values, a_times, a_counts) => wY_work_54 post f_lines f_height f_steps f_last f_ending n x1 a_inputs a_sorts a_variables a_numbers a_firsts a_seconds a_pile a_closes a_others a_opens a_values a_times a_counts
def uy_w1 (post : SY → Prop) (n : Nat) (x1 : Int32) (v : SY) : Prop := match v with
  | (f_lines, f_height, f_steps, f_last, f_ending, a_inputs, a_sorts, a_variables, a_numbers, a_firsts, a_seconds, a_pile, a_closes, a_others, a_opens, a_values, a_times, a_counts) => wY_work_32 post f_lines f_height f_steps f_last f_ending n x1 a_inputs a_sorts a_variables a_numbers a_firsts a_seconds a_pile a_closes a_others a_opens a_values a_times a_counts
theorem ys_w2 {z : Int32} {post : SY → Prop} (H : ∀ v, w0_I c z 5 v → ∃ n, uy_w3 post n 0 v) :
    ∀ m x, x + m = 5 → ∀ n, m < n → ∀ v, w0_I c z x v → uy_w2 post n (nI x) v := by
  intro m
  induction m with
  | zero =>
    intro x hx n hn v h
    obtain ⟨n, rfl⟩ : ∃ n', n = n' + 1 := ⟨n - 1, by omega⟩
    have : x = 5 := by omega
    subst this
    have hH := H v h
    obtain ⟨f_lines, f_height, f_steps, f_last, f_ending, a_inputs, a_sorts, a_variables, a_numbers, a_firsts, a_seconds, a_pile, a_closes, a_others, a_opens, a_values, a_times, a_counts⟩ := v
    exact br_t (by decide) hH
  | succ m ih =>
    intro x hx n hn v h
    obtain ⟨n, rfl⟩ : ∃ n', n = n' + 1 := ⟨n - 1, by omega⟩
    obtain ⟨f_lines, f_height, f_steps, f_last, f_ending, a_inputs, a_sorts, a_variables, a_numbers, a_firsts, a_seconds, a_pile, a_closes, a_others, a_opens, a_values, a_times, a_counts⟩ := v
    obtain ⟨hb, q1, q2, q3, q4, q5⟩ := h
    have hp := (yb_el hb).1
    have hx5 : x < 5 := by omega
    have hxi : vp_in (nI x) 5 := vp_in_nI hx5 (by decide)
    have hxc : (nI x).toNatClampNeg = x := nI_clamp (by omega)
    have hgo : ∀ w, w = (if x < 4 then cf_s0 c x else 0) → wY_work_79 post (wY_work_54 post f_lines f_height f_steps f_last f_ending n) (nI x) w (nI x) f_lines f_height f_steps f_last f_ending a_inputs a_sorts a_variables a_numbers a_firsts a_seconds a_pile a_closes a_others a_opens a_values a_times a_counts := by
      intro w hw
      refine And.intro hxi (nm_r (e' := upd a_values x w) (by rw [hxc]) (And.intro hxi (nm_r (e' := upd a_times x 0) (by rw [hxc]) (nm_r (e' := nI (x + 1)) (nI_1 x) ?_))))
      refine ih (x + 1) (by omega) n (by omega) (f_lines, f_height, f_steps, f_last, f_ending, a_inputs, a_sorts, a_variables, a_numbers, a_firsts, a_seconds, a_pile, a_closes, a_others, a_opens, upd a_values x w, upd a_times x 0, a_counts) (And.intro (yb_mk (yb_el hb)) (And.intro q1 (And.intro q2 (And.intro q3 (And.intro q4 ?_)))))
      intro y hy
      by_cases e : y = x
      · subst e; rw [pk_us, pk_us]; exact ⟨hw, rfl⟩
      · rw [pk_un e, pk_un e]; exact q5 y (by omega)
    refine br_f (lt5' x hx5) ?_
    by_cases h4 : x < 4
    · refine br_f (nI_ge (b := 4) h4 (by decide)) (And.intro (vp_in_nI h4 (by decide)) (hgo _ ?_))
      rw [hxc, hp.2.1, if_pos h4]; rfl
    · refine br_t (nI_le (a := 4) (by omega) (by omega)) (hgo _ ?_)
      rw [if_neg h4]
theorem ys_w1 {z : Int32} {post : SY → Prop} (H : ∀ v, w0_I c z 5 v → ∃ n, uy_w3 post n 0 v) :
    ∀ m x, x + m = 402 → ∀ n, m < n → ∀ v, (yb_I c v ∧ match v with | (f_lines, f_height, f_steps, f_last, f_ending, a_inputs, a_sorts, a_variables, a_numbers, a_firsts, a_seconds, a_pile, a_closes, a_others, a_opens, a_values, a_times, a_counts) => f_steps = 0 ∧ f_last = 0 ∧ f_ending = z ∧ ∀ t, t < x → a_counts t = 0) → uy_w1 post n (nI x) v := by
  intro m
  induction m with
  | zero =>
    intro x hx n hn v h
    obtain ⟨n, rfl⟩ : ∃ n', n = n' + 1 := ⟨n - 1, by omega⟩
    have : x = 402 := by omega
    subst this
    obtain ⟨f_lines, f_height, f_steps, f_last, f_ending, a_inputs, a_sorts, a_variables, a_numbers, a_firsts, a_seconds, a_pile, a_closes, a_others, a_opens, a_values, a_times, a_counts⟩ := v
    obtain ⟨hb, q1, q2, q3, q4⟩ := h
    refine br_t (by decide) ⟨6, ?_⟩
    exact ys_w2 (c := c) (z := z) (post := post) H 5 0 rfl 6 (by omega) (f_lines, f_height, f_steps, f_last, f_ending, a_inputs, a_sorts, a_variables, a_numbers, a_firsts, a_seconds, a_pile, a_closes, a_others, a_opens, a_values, a_times, a_counts) (And.intro hb (And.intro q1 (And.intro q2 (And.intro q3 (And.intro q4 fun y hy => absurd hy (Nat.not_lt_zero _))))))
  | succ m ih =>
    intro x hx n hn v h
    obtain ⟨n, rfl⟩ : ∃ n', n = n' + 1 := ⟨n - 1, by omega⟩
    obtain ⟨f_lines, f_height, f_steps, f_last, f_ending, a_inputs, a_sorts, a_variables, a_numbers, a_firsts, a_seconds, a_pile, a_closes, a_others, a_opens, a_values, a_times, a_counts⟩ := v
    obtain ⟨hb, q1, q2, q3, q4⟩ := h
    refine br_f (nI_ge (b := 402) (by omega) (by decide)) (And.intro (vp_in_nI (by omega) (by decide)) (nm_r (e' := upd a_counts x 0) (by rw [nI_clamp (by omega)]) (nm_r (e' := nI (x + 1)) (nI_1 x) ?_)))
    refine ih (x + 1) (by omega) n (by omega) (f_lines, f_height, f_steps, f_last, f_ending, a_inputs, a_sorts, a_variables, a_numbers, a_firsts, a_seconds, a_pile, a_closes, a_others, a_opens, a_values, a_times, upd a_counts x 0) (And.intro (yb_mk (yb_el hb)) (And.intro q1 (And.intro q2 (And.intro q3 ?_))))
    intro t ht
    by_cases e : t = x
    · subst e; rw [pk_us]
    · rw [pk_un e]; exact q4 t (by omega)
theorem ys_work (w : cf_wf c) {post : SY → Prop} (H : ∀ v, py_I c v → (match v with | (f_lines, f_height, f_steps, f_last, f_ending, a_inputs, a_sorts, a_variables, a_numbers, a_firsts, a_seconds, a_pile, a_closes, a_others, a_opens, a_values, a_times, a_counts) => yo_I c f_ending f_steps f_last a_values a_times a_counts) → post v) (v : SY) (h : py_I c v) : wpY_work post v := by
  have hlen := cf_st_len w (cf_n c) (Nat.le_refl _)
  obtain ⟨f_lines, f_height, f_steps, f_last, f_ending, a_inputs, a_sorts, a_variables, a_numbers, a_firsts, a_seconds, a_pile, a_closes, a_others, a_opens, a_values, a_times, a_counts⟩ := v
  refine ys_pair w ?_ (f_lines, f_height, f_steps, f_last, f_ending, a_inputs, a_sorts, a_variables, a_numbers, a_firsts, a_seconds, a_pile, a_closes, a_others, a_opens, a_values, a_times, a_counts) h
  intro v hp hq
  obtain ⟨f_lines, f_height, f_steps, f_last, f_ending, a_inputs, a_sorts, a_variables, a_numbers, a_firsts, a_seconds, a_pile, a_closes, a_others, a_opens, a_values, a_times, a_counts⟩ := v
  obtain ⟨q1, q2⟩ := pr_el hq
  have hb : ∀ z, yb_I c (f_lines, f_height, 0, 0, z, a_inputs, a_sorts, a_variables, a_numbers, a_firsts, a_seconds, a_pile, a_closes, a_others, a_opens, a_values, a_times, a_counts) := fun z => yb_mk ⟨py_el hp, pr_el hq⟩
  by_cases hn : cf_st c (cf_n c) = []
  · have k : cf_ok c := ⟨w, hn⟩
    refine br_t (by rw [q1, hn]; decide) ⟨403, ?_⟩
    refine ys_w1 (c := c) (z := 0) (post := post) ?_ 402 0 rfl 403 (by omega) (f_lines, f_height, 0, 0, 0, a_inputs, a_sorts, a_variables, a_numbers, a_firsts, a_seconds, a_pile, a_closes, a_others, a_opens, a_values, a_times, a_counts) (And.intro (hb 0) (And.intro rfl (And.intro rfl (And.intro rfl fun t ht => absurd ht (Nat.not_lt_zero _)))))
    intro v hv
    refine ⟨400 * 32 + 33, ys_w3 (c := c) k H (400 * 32 + 32) _ (by omega) 0 0 v ?_ (by omega) ⟨⟨hv.1, ?_⟩, rfl, Or.inl rfl⟩⟩
    · show (400 - 0) * 32 + (32 - 0) ≤ _
      omega
    · obtain ⟨f_lines, f_height, f_steps, f_last, f_ending, a_inputs, a_sorts, a_variables, a_numbers, a_firsts, a_seconds, a_pile, a_closes, a_others, a_opens, a_values, a_times, a_counts⟩ := v
      obtain ⟨_, r1, r2, r3, r4, r5⟩ := hv
      refine And.intro r3 (And.intro r1 (And.intro (Nat.zero_le _) (And.intro (fun x hx => (r5 x hx).1) (And.intro (fun x hx => ⟨(r5 x hx).2, Nat.zero_le _⟩) (And.intro r4 ⟨0, r2, by omega, (fun t ht => nomatch ht), Or.inl rfl⟩)))))
  · have hpos : 0 < (cf_st c (cf_n c)).length := by
      cases e : cf_st c (cf_n c) with
      | nil => exact absurd e hn
      | cons a l => rw [List.length_cons]; omega
    refine br_f (by rw [q1]; exact nI_nle hpos (by omega)) ⟨403, ?_⟩
    refine ys_w1 (c := c) (z := 2) (post := post) ?_ 402 0 rfl 403 (by omega) (f_lines, f_height, 0, 0, 2, a_inputs, a_sorts, a_variables, a_numbers, a_firsts, a_seconds, a_pile, a_closes, a_others, a_opens, a_values, a_times, a_counts) (And.intro (hb 2) (And.intro rfl (And.intro rfl (And.intro rfl fun t ht => absurd ht (Nat.not_lt_zero _)))))
    intro v hv
    refine ⟨1, ?_⟩
    obtain ⟨f_lines, f_height, f_steps, f_last, f_ending, a_inputs, a_sorts, a_variables, a_numbers, a_firsts, a_seconds, a_pile, a_closes, a_others, a_opens, a_values, a_times, a_counts⟩ := v
    obtain ⟨hb, r1, r2, r3, r4, r5⟩ := hv
    refine br_f (by rw [r3]; decide) (H _ hb.1 ?_)
    exact Or.inl ⟨hn, r3⟩
end
end
section
/-! programs that agree on their first lines -/
def cf_ag (c c' : CF) (N : Nat) : Prop := ∀ i, i < N → c'.2.1 i = c.2.1 i ∧ c'.2.2.1 i = c.2.2.1 i ∧ c'.2.2.2.1 i = c.2.2.2.1 i ∧ c'.2.2.2.2.1 i = c.2.2.2.2.1 i ∧ c'.2.2.2.2.2.1 i = c.2.2.2.2.2.1 i
section
variable {c c' : CF}
theorem ag_kd {N i : Nat} (h : cf_ag c c' N) (hi : i < N) : cf_kd c' i = cf_kd c i := by rw [cf_kd, cf_kd, (h i hi).1]
theorem ag_st {N : Nat} (h : cf_ag c c' N) : ∀ i, i ≤ N → cf_st c' i = cf_st c i := by
  intro i
  induction i with
  | zero => intro _; rfl
  | succ i ih => intro hi; rw [cf_st, cf_st, ag_kd h (by omega), ih (by omega)]
theorem ag_oth {N : Nat} (h : cf_ag c c' N) (j : Nat) : ∀ i, i ≤ N → cf_oth c' i j = cf_oth c i j := by
  intro i
  induction i with
  | zero => intro _; rfl
  | succ i ih => intro hi; rw [cf_oth, cf_oth, ag_kd h (by omega), ag_st h i (by omega), ih (by omega)]
theorem ag_lok {N i : Nat} (h : cf_ag c c' N) (hi : i < N) (l : cf_lok c i) : cf_lok c' i := by
  obtain ⟨a1, a2, a3, a4, a5⟩ := h i hi
  have hk := ag_kd h hi
  have hs := ag_st h i (by omega)
  obtain ⟨l1, l2, l3, l4, l5, l6, l7⟩ := l
  refine ⟨by rw [a1, hk]; exact l1, by rw [hk]; exact l2, ?_, ?_, ?_, by rw [hk, hs]; exact l6, by rw [hk, hs]; exact l7⟩
  · rw [hk]
    intro z1 z2
    have := l3 z1 z2
    rw [cf_va, a2]
    exact this
  · rw [hk]
    intro z
    have := l4 z
    rw [cf_vc, cf_vd, cf_lb, a3, a4, a5]
    exact this
  · rw [hk, hs]
    intro z
    obtain ⟨j, r, e1, e2, e3⟩ := l5 z
    have hj := (cf_sth e1).2.1
    exact ⟨j, r, e1, by rw [ag_kd h (by omega)]; exact e2, by rw [ag_oth h j i (by omega)]; exact e3⟩
/-- one line more -/
def cf_ad (c : CF) (p0 p1 p2 p3 p4 : Int32) : CF := (cf_n c + 1, upd c.2.1 (cf_n c) p0, upd c.2.2.1 (cf_n c) p1, upd c.2.2.2.1 (cf_n c) p2, upd c.2.2.2.2.1 (cf_n c) p3, upd c.2.2.2.2.2.1 (cf_n c) p4, c.2.2.2.2.2.2)
theorem ad_ag (p0 p1 p2 p3 p4 : Int32) : cf_ag c (cf_ad c p0 p1 p2 p3 p4) (cf_n c) := by
  intro i hi
  have hne : i ≠ cf_n c := by omega
  exact ⟨pk_un hne, pk_un hne, pk_un hne, pk_un hne, pk_un hne⟩
theorem ad_wf {p0 p1 p2 p3 p4 : Int32} (w : cf_wf c) (hn : cf_n c < 20) (h : cf_lok (cf_ad c p0 p1 p2 p3 p4) (cf_n c)) : cf_wf (cf_ad c p0 p1 p2 p3 p4) := by
  refine ⟨hn, fun i hi => ?_⟩
  have hi : i < cf_n c + 1 := hi
  by_cases e : i = cf_n c
  · rw [e]; exact h
  · exact ag_lok (ad_ag p0 p1 p2 p3 p4) (by omega) (w.2 i (by omega))
theorem ad_st (p0 p1 p2 p3 p4 : Int32) : cf_st (cf_ad c p0 p1 p2 p3 p4) (cf_n c) = cf_st c (cf_n c) := ag_st (ad_ag p0 p1 p2 p3 p4) _ (Nat.le_refl _)
theorem ad_kd {p1 p2 p3 p4 : Int32} (k : Nat) (hk : k ≤ 5) : cf_kd (cf_ad c (nI k) p1 p2 p3 p4) (cf_n c) = k ∧ (cf_ad c (nI k) p1 p2 p3 p4).2.1 (cf_n c) = nI k := by
  have e : (cf_ad c (nI k) p1 p2 p3 p4).2.1 (cf_n c) = nI k := pk_us
  exact ⟨by rw [cf_kd, e]; exact nI_clamp (by omega), e⟩
theorem ad_va {p0 p2 p3 p4 : Int32} (y : Nat) (hy : y < 4) : (cf_ad c p0 (nI y) p2 p3 p4).2.2.1 (cf_n c) = nI (cf_va (cf_ad c p0 (nI y) p2 p3 p4) (cf_n c)) ∧ cf_va (cf_ad c p0 (nI y) p2 p3 p4) (cf_n c) < 4 := by
  have e : (cf_ad c p0 (nI y) p2 p3 p4).2.2.1 (cf_n c) = nI y := pk_us
  have e2 : cf_va (cf_ad c p0 (nI y) p2 p3 p4) (cf_n c) = y := by rw [cf_va, e]; exact nI_clamp (by omega)
  rw [e2]
  exact ⟨e, hy⟩
/-- a constant -/
theorem ad_0 {p2 p3 p4 : Int32} {y : Nat} (hy : y < 4) (w : cf_wf c) (hn : cf_n c < 20) : cf_wf (cf_ad c 0 (nI y) p2 p3 p4) ∧ cf_st (cf_ad c 0 (nI y) p2 p3 p4) (cf_n c + 1) = cf_st c (cf_n c) := by
  obtain ⟨k1, k2⟩ := ad_kd (c := c) (p1 := nI y) (p2 := p2) (p3 := p3) (p4 := p4) 0 (by omega)
  have k1 : cf_kd (cf_ad c 0 (nI y) p2 p3 p4) (cf_n c) = 0 := k1
  constructor
  · refine ad_wf w hn ⟨?_, by omega, fun _ _ => ad_va y hy, fun z => by omega, fun z => by omega, fun z => by omega, fun z => by omega⟩
    rw [k1]; exact k2
  · rw [cf_st_s (by omega) (by omega) (by omega), ad_st]
/-- an operation -/
theorem ad_1 {p2 : Int32} {y a b : Nat} (hy : y < 4) (ha : a < 4) (hb : b < 4) (h0 : 0 ≤ p2) (h4 : p2 ≤ 4) (w : cf_wf c) (hn : cf_n c < 20) : cf_wf (cf_ad c 1 (nI y) p2 (nI a) (nI b)) ∧ cf_st (cf_ad c 1 (nI y) p2 (nI a) (nI b)) (cf_n c + 1) = cf_st c (cf_n c) := by
  obtain ⟨k1, k2⟩ := ad_kd (c := c) (p1 := nI y) (p2 := p2) (p3 := nI a) (p4 := nI b) 1 (by omega)
  have k1 : cf_kd (cf_ad c 1 (nI y) p2 (nI a) (nI b)) (cf_n c) = 1 := k1
  constructor
  · refine ad_wf w hn ⟨?_, by omega, fun _ _ => ad_va y hy, fun _ => ?_, fun z => by omega, fun z => by omega, fun z => by omega⟩
    · rw [k1]; exact k2
    · have e1 : (cf_ad c 1 (nI y) p2 (nI a) (nI b)).2.2.2.2.1 (cf_n c) = nI a := pk_us
      have e2 : (cf_ad c 1 (nI y) p2 (nI a) (nI b)).2.2.2.2.2.1 (cf_n c) = nI b := pk_us
      have e3 : (cf_ad c 1 (nI y) p2 (nI a) (nI b)).2.2.2.1 (cf_n c) = p2 := pk_us
      have e4 : cf_vc (cf_ad c 1 (nI y) p2 (nI a) (nI b)) (cf_n c) = a := by rw [cf_vc, e1]; exact nI_clamp (by omega)
      have e5 : cf_vd (cf_ad c 1 (nI y) p2 (nI a) (nI b)) (cf_n c) = b := by rw [cf_vd, e2]; exact nI_clamp (by omega)
      rw [e4, e5, cf_lb, e3]
      exact ⟨⟨e1, ha⟩, ⟨e2, hb⟩, h0, h4⟩
  · rw [cf_st_s (by omega) (by omega) (by omega), ad_st]
/-- a when or a loop -/
theorem ad_24 {p2 p3 p4 : Int32} {k y : Nat} (hk : k = 2 ∨ k = 4) (hy : y < 4) (hs : (cf_st c (cf_n c)).length < 4) (w : cf_wf c) (hn : cf_n c < 20) : cf_wf (cf_ad c (nI k) (nI y) p2 p3 p4) ∧ cf_st (cf_ad c (nI k) (nI y) p2 p3 p4) (cf_n c + 1) = cf_n c :: cf_st c (cf_n c) := by
  obtain ⟨k1, k2⟩ := ad_kd (c := c) (p1 := nI y) (p2 := p2) (p3 := p3) (p4 := p4) k (by omega)
  constructor
  · refine ad_wf w hn ⟨?_, by omega, fun _ _ => ad_va y hy, fun z => by omega, fun z => by omega, fun z => by omega, fun _ => by rw [ad_st]; exact hs⟩
    rw [k1]; exact k2
  · rw [cf_st_c (by omega), ad_st]
/-- an otherwise -/
theorem ad_3 {p1 p2 p3 p4 : Int32} {j : Nat} {r : List Nat} (he : cf_st c (cf_n c) = j :: r) (hj : cf_kd c j = 2) (ho : cf_oth c (cf_n c) j = none) (w : cf_wf c) (hn : cf_n c < 20) : cf_wf (cf_ad c 3 p1 p2 p3 p4) ∧ cf_st (cf_ad c 3 p1 p2 p3 p4) (cf_n c + 1) = cf_st c (cf_n c) := by
  obtain ⟨k1, k2⟩ := ad_kd (c := c) (p1 := p1) (p2 := p2) (p3 := p3) (p4 := p4) 3 (by omega)
  have k1 : cf_kd (cf_ad c 3 p1 p2 p3 p4) (cf_n c) = 3 := k1
  have hjn := (cf_sth he).2.1
  constructor
  · refine ad_wf w hn ⟨?_, by omega, fun z => by omega, fun z => by omega, fun _ => ⟨j, r, by rw [ad_st]; exact he, ?_, ?_⟩, fun z => by omega, fun z => by omega⟩
    · rw [k1]; exact k2
    · rw [ag_kd (ad_ag 3 p1 p2 p3 p4) hjn]; exact hj
    · rw [ag_oth (ad_ag 3 p1 p2 p3 p4) j _ (Nat.le_refl _)]; exact ho
  · rw [cf_st_s (by omega) (by omega) (by omega), ad_st]
/-- a close -/
theorem ad_5 {p1 p2 p3 p4 : Int32} {j : Nat} {r : List Nat} (he : cf_st c (cf_n c) = j :: r) (w : cf_wf c) (hn : cf_n c < 20) : cf_wf (cf_ad c 5 p1 p2 p3 p4) ∧ cf_st (cf_ad c 5 p1 p2 p3 p4) (cf_n c + 1) = r := by
  obtain ⟨k1, k2⟩ := ad_kd (c := c) (p1 := p1) (p2 := p2) (p3 := p3) (p4 := p4) 5 (by omega)
  have k1 : cf_kd (cf_ad c 5 p1 p2 p3 p4) (cf_n c) = 5 := k1
  constructor
  · refine ad_wf w hn ⟨?_, by omega, fun _ z => by omega, fun z => by omega, fun z => by omega, fun _ => by (rw [ad_st, he]; simp), fun z => by omega⟩
    rw [k1]; exact k2
  · rw [cf_st_5 k1, ad_st, he, List.tail_cons]
end
/-! small methods of both -/
theorem bv_cs (x : Int32) : (∃ j, j < 4 ∧ x = nI j) ∨ x < 0 ∨ (¬ x < 0 ∧ ¬ x ≤ 3) := by
  by_cases h : x < 0
  · exact Or.inr (Or.inl h)
  · by_cases h3 : x ≤ 3
    · obtain ⟨j, hj, e⟩ := nI_of2 (M := 3) (n := 3) (by decide) h h3
      exact Or.inl ⟨j, by omega, e⟩
    · exact Or.inr (Or.inr ⟨h, h3⟩)
section
variable {c : CF} {fo : Int32} {fl : Nat → Int32}
variable {f_lines f_opened f_nodes f_edges f_depth f_tags f_readyFrom f_readyTo f_ranOrder f_isRun f_ended f_stepCount f_now : Int32} {a_lineKind a_lineA a_lineB a_lineC a_lineD a_openLine a_start a_nodeKind a_nodeNumber a_firstEdge a_edgeTo a_edgeInput a_nextEdge a_current a_keptFirst a_keptSecond a_openIs a_hasOther a_tagLoop a_tagRound a_tagAround a_waitNode a_waitTag a_waitValue a_waitInput a_readyNode a_readyTag a_readyA a_readyB a_readyInput a_result a_resultTime a_stepsAt : Nat → Int32}
theorem xs_bv1 {post : Int32 → Prop} {j : Nat} (hj : j < 4) (H : post 0) : wpX_badVariable post (f_lines, f_opened, f_nodes, f_edges, f_depth, f_tags, f_readyFrom, f_readyTo, f_ranOrder, f_isRun, f_ended, f_stepCount, f_now, a_lineKind, a_lineA, a_lineB, a_lineC, a_lineD, a_openLine, a_start, a_nodeKind, a_nodeNumber, a_firstEdge, a_edgeTo, a_edgeInput, a_nextEdge, a_current, a_keptFirst, a_keptSecond, a_openIs, a_hasOther, a_tagLoop, a_tagRound, a_tagAround, a_waitNode, a_waitTag, a_waitValue, a_waitInput, a_readyNode, a_readyTag, a_readyA, a_readyB, a_readyInput, a_result, a_resultTime, a_stepsAt) (nI j) := br_f (nI_pos (by omega)) (br_t (nI_le (b := 3) (by omega) (by decide)) H)
theorem xs_bv0 {post : Int32 → Prop} {x : Int32} (h : x < 0 ∨ (¬ x < 0 ∧ ¬ x ≤ 3)) (H : post 1) : wpX_badVariable post (f_lines, f_opened, f_nodes, f_edges, f_depth, f_tags, f_readyFrom, f_readyTo, f_ranOrder, f_isRun, f_ended, f_stepCount, f_now, a_lineKind, a_lineA, a_lineB, a_lineC, a_lineD, a_openLine, a_start, a_nodeKind, a_nodeNumber, a_firstEdge, a_edgeTo, a_edgeInput, a_nextEdge, a_current, a_keptFirst, a_keptSecond, a_openIs, a_hasOther, a_tagLoop, a_tagRound, a_tagAround, a_waitNode, a_waitTag, a_waitValue, a_waitInput, a_readyNode, a_readyTag, a_readyA, a_readyB, a_readyInput, a_result, a_resultTime, a_stepsAt) x := by
  rcases h with h | ⟨h, h3⟩
  · exact br_t h H
  · exact br_f h (br_f h3 H)
theorem xs_add {post : Int32 → SX → Prop} {n : Nat} {p0 p1 p2 p3 p4 : Int32} (hn : f_lines = nI n) (h : n < 20)
    (H : post (nI (n + 1)) (nI (n + 1), f_opened, f_nodes, f_edges, f_depth, f_tags, f_readyFrom, f_readyTo, f_ranOrder, 0, f_ended, f_stepCount, f_now, upd a_lineKind n p0, upd a_lineA n p1, upd a_lineB n p2, upd a_lineC n p3, upd a_lineD n p4, a_openLine, a_start, a_nodeKind, a_nodeNumber, a_firstEdge, a_edgeTo, a_edgeInput, a_nextEdge, a_current, a_keptFirst, a_keptSecond, a_openIs, a_hasOther, a_tagLoop, a_tagRound, a_tagAround, a_waitNode, a_waitTag, a_waitValue, a_waitInput, a_readyNode, a_readyTag, a_readyA, a_readyB, a_readyInput, a_result, a_resultTime, a_stepsAt)) : wpX_addLine post (f_lines, f_opened, f_nodes, f_edges, f_depth, f_tags, f_readyFrom, f_readyTo, f_ranOrder, f_isRun, f_ended, f_stepCount, f_now, a_lineKind, a_lineA, a_lineB, a_lineC, a_lineD, a_openLine, a_start, a_nodeKind, a_nodeNumber, a_firstEdge, a_edgeTo, a_edgeInput, a_nextEdge, a_current, a_keptFirst, a_keptSecond, a_openIs, a_hasOther, a_tagLoop, a_tagRound, a_tagAround, a_waitNode, a_waitTag, a_waitValue, a_waitInput, a_readyNode, a_readyTag, a_readyA, a_readyB, a_readyInput, a_result, a_resultTime, a_stepsAt) p0 p1 p2 p3 p4 := by
  subst hn
  have hin : vp_in (nI n) 20 := vp_in_nI h (by decide)
  have hc : (nI n).toNatClampNeg = n := nI_clamp (by omega)
  exact And.intro hin (nm_r (e' := upd a_lineKind n p0) (by rw [hc]) (And.intro hin (nm_r (e' := upd a_lineA n p1) (by rw [hc]) (And.intro hin (nm_r (e' := upd a_lineB n p2) (by rw [hc]) (And.intro hin (nm_r (e' := upd a_lineC n p3) (by rw [hc]) (And.intro hin (nm_r (e' := upd a_lineD n p4) (by rw [hc]) (nm_r (e' := nI (n + 1)) (nI_1 n) H))))))))))
/-! isSaid -/
theorem xs_said {post : Int32 → Prop} {j : Nat} {r : List Nat} (w : cf_wf c) (hp : px_I c fo fl (f_lines, f_opened, f_nodes, f_edges, f_depth, f_tags, f_readyFrom, f_readyTo, f_ranOrder, f_isRun, f_ended, f_stepCount, f_now, a_lineKind, a_lineA, a_lineB, a_lineC, a_lineD, a_openLine, a_start, a_nodeKind, a_nodeNumber, a_firstEdge, a_edgeTo, a_edgeInput, a_nextEdge, a_current, a_keptFirst, a_keptSecond, a_openIs, a_hasOther, a_tagLoop, a_tagRound, a_tagAround, a_waitNode, a_waitTag, a_waitValue, a_waitInput, a_readyNode, a_readyTag, a_readyA, a_readyB, a_readyInput, a_result, a_resultTime, a_stepsAt)) (he : cf_st c (cf_n c) = j :: r)
    (H : post (if cf_oth c (cf_n c) j = none then 0 else 1)) :
    ∀ m i, i + m = cf_n c → j < i → ∀ n, m < n → ∀ L, (cf_st c i).length = L + (cf_st c j).length + 1 → wX_isSaid_18 post f_lines f_opened f_nodes f_edges f_depth f_tags f_readyFrom f_readyTo f_ranOrder f_isRun f_ended f_stepCount f_now a_lineKind a_lineA a_lineB a_lineC a_lineD a_openLine a_start a_nodeKind a_nodeNumber a_firstEdge a_edgeTo a_edgeInput a_nextEdge a_current a_keptFirst a_keptSecond a_openIs a_hasOther a_tagLoop a_tagRound a_tagAround a_waitNode a_waitTag a_waitValue a_waitInput a_readyNode a_readyTag a_readyA a_readyB a_readyInput a_result a_resultTime a_stepsAt n (nI L) (if cf_oth c i j = none then 0 else 1) (nI i) := by
  have h20 := w.1
  have hp1 := px_el hp
  intro m
  induction m with
  | zero =>
    intro i hi hj n hn L hL
    obtain ⟨n, rfl⟩ : ∃ n', n = n' + 1 := ⟨n - 1, by omega⟩
    have e : i = cf_n c := by omega
    subst e
    refine br_t (by rw [hp1.1]; exact nI_le (Nat.le_refl _) (by omega)) (And.intro ?_ H)
    split
    · rfl
    · rfl
  | succ m ih =>
    intro i hi hj n hn L hL
    obtain ⟨n, rfl⟩ : ∃ n', n = n' + 1 := ⟨n - 1, by omega⟩
    have hi' : i < cf_n c := by omega
    have hl := w.2 i hi'
    have eK : a_lineKind (nI i).toNatClampNeg = nI (cf_kd c i) := by rw [nI_clamp (by omega), hp1.2.2.1]; exact hl.1
    have hjm : j ∈ cf_st c i := cf_stay hj (i' := cf_n c) (by omega) (by rw [he]; exact List.mem_cons_self ..)
    have hjm1 : j ∈ cf_st c (i + 1) := cf_stay (i := i + 1) (by omega) (i' := cf_n c) (by omega) (by rw [he]; exact List.mem_cons_self ..)
    have hlen := cf_st_len w i (by omega)
    have hlen1 := cf_st_len w (i + 1) (by omega)
    have hsuf1 : (cf_st c j).length + 1 ≤ (cf_st c (i + 1)).length := by
      have := (cf_stm hjm1).2.2.length_le
      rw [List.length_cons] at this
      exact this
    refine br_f (by rw [hp1.1]; exact nI_ge (by omega) (by omega)) (And.intro (vp_in_nI (by omega) (by decide)) (nm_r eK ?_))
    have hgo : ∀ L', (cf_st c (i + 1)).length = L' + (cf_st c j).length + 1 → (cf_kd c i = 3 → L' = L) → wX_isSaid_65 post (wX_isSaid_18 post f_lines f_opened f_nodes f_edges f_depth f_tags f_readyFrom f_readyTo f_ranOrder f_isRun f_ended f_stepCount f_now a_lineKind a_lineA a_lineB a_lineC a_lineD a_openLine a_start a_nodeKind a_nodeNumber a_firstEdge a_edgeTo a_edgeInput a_nextEdge a_current a_keptFirst a_keptSecond a_openIs a_hasOther a_tagLoop a_tagRound a_tagAround a_waitNode a_waitTag a_waitValue a_waitInput a_readyNode a_readyTag a_readyA a_readyB a_readyInput a_result a_resultTime a_stepsAt n) (if cf_oth c i j = none then 0 else 1) (nI i) (nI (cf_kd c i)) (nI L') f_lines f_opened f_nodes f_edges f_depth f_tags f_readyFrom f_readyTo f_ranOrder f_isRun f_ended f_stepCount f_now a_lineKind a_lineA a_lineB a_lineC a_lineD a_openLine a_start a_nodeKind a_nodeNumber a_firstEdge a_edgeTo a_edgeInput a_nextEdge a_current a_keptFirst a_keptSecond a_openIs a_hasOther a_tagLoop a_tagRound a_tagAround a_waitNode a_waitTag a_waitValue a_waitInput a_readyNode a_readyTag a_readyA a_readyB a_readyInput a_result a_resultTime a_stepsAt := by
      intro L' hL' h3
      have := ih (i + 1) (by omega) (by omega) n (by omega) L' hL'
      by_cases ho : cf_oth c i j = none
      · rw [if_pos ho]
        refine br_t rfl ?_
        by_cases hk : cf_kd c i = 3
        · have e3 := h3 hk
          subst e3
          rw [hk]
          refine br_t rfl ?_
          by_cases hz : L' = 0
          · subst hz
            refine br_t rfl (nm_r (nI_1 i) ?_)
            have hh : (cf_st c i).head? = some j := by
              obtain ⟨p, hp⟩ := (cf_stm hjm).2.2
              have e := congrArg List.length hp
              rw [List.length_append, List.length_cons, hL] at e
              have : p = [] := List.eq_nil_of_length_eq_zero (by omega)
              rw [← hp, this]; rfl
            have e5 : cf_oth c (i + 1) j = some i := by rw [cf_oth, if_pos ⟨hk, hh⟩]
            rw [e5, if_neg (by simp)] at this
            exact this
          · refine br_f (nI_ne0 (by omega) (by omega)) (nm_r (nI_1 i) ?_)
            have hh : ¬ (cf_st c i).head? = some j := by
              intro z
              have e := (cf_head z).1
              rw [e, List.length_cons] at hL
              omega
            have e5 : cf_oth c (i + 1) j = cf_oth c i j := by rw [cf_oth, if_neg (fun z => hh z.2)]
            rw [e5, if_pos ho] at this
            exact this
        · refine br_f (fun z => hk ((nI_eq (b := 3) (by have := hl.2.1; omega) (by decide)).mp z)) (nm_r (nI_1 i) ?_)
          have e5 : cf_oth c (i + 1) j = cf_oth c i j := by rw [cf_oth, if_neg (fun z => hk z.1)]
          rw [e5, if_pos ho] at this
          exact this
      · rw [if_neg ho]
        refine br_f (by decide) (nm_r (nI_1 i) ?_)
        have hn2 : ¬ cf_oth c (i + 1) j = none := by
          intro z
          exact ho (cf_oth_n 1 i z)
        rw [if_neg hn2] at this
        exact this
    rcases cf_k6 w hi' with g | g | g | g | g | g
    · have := hgo L (by rw [cf_st_s (by omega) (by omega) (by omega)]; exact hL) (fun _ => rfl)
      rw [g] at this ⊢
      exact br_f (by decide) (br_f (by decide) (br_f (by decide) this))
    · have := hgo L (by rw [cf_st_s (by omega) (by omega) (by omega)]; exact hL) (fun _ => rfl)
      rw [g] at this ⊢
      exact br_f (by decide) (br_f (by decide) (br_f (by decide) this))
    · have := hgo (L + 1) (by rw [cf_st_c (Or.inl g), List.length_cons]; omega) (fun z => by omega)
      rw [g, show nI (L + 1) = nI L + 1 from (nI_1 L).symm] at this
      rw [g]
      exact br_t rfl this
    · have := hgo L (by rw [cf_st_s (by omega) (by omega) (by omega)]; exact hL) (fun _ => rfl)
      rw [g] at this ⊢
      exact br_f (by decide) (br_f (by decide) (br_f (by decide) this))
    · have := hgo (L + 1) (by rw [cf_st_c (Or.inr g), List.length_cons]; omega) (fun z => by omega)
      rw [g, show nI (L + 1) = nI L + 1 from (nI_1 L).symm] at this
      rw [g]
      exact br_f (by decide) (br_t rfl this)
    · have hL1 : (cf_st c (i + 1)).length = L - 1 + (cf_st c j).length + 1 ∧ 1 ≤ L := by
        rw [cf_st_5 g, List.length_tail] at hsuf1 ⊢
        omega
      have := hgo (L - 1) hL1.1 (fun z => by omega)
      rw [g] at this ⊢
      have e : nI L - 1 = nI (L - 1) := by
        obtain ⟨L', rfl⟩ : ∃ L', L = L' + 1 := ⟨L - 1, by omega⟩
        rw [nI_pred, Nat.add_sub_cancel]
      rw [← e] at this
      exact br_f (by decide) (br_f (by decide) (br_t rfl this))
/-! findOpen -/
def ux_fo (post : SX → Prop) (n : Nat) (x1 : Int32) (u : SX) : Prop := match u with
  | (f_lines, f_opened, f_nodes, f_edges, f_depth, f_tags, f_readyFrom, f_readyTo, f_ranOrder, f_isRun, f_ended, f_stepCount, f_now, a_lineKind, a_lineA, a_lineB, a_lineC, a_lineD, a_openLine, a_start, a_nodeKind, a_nodeNumber, a_firstEdge, a_edgeTo, a_edgeInput, a_nextEdge, a_current, a_keptFirst, a_keptSecond, a_openIs, a_hasOther, a_tagLoop, a_tagRound, a_tagAround, a_waitNode, a_waitTag, a_waitValue, a_waitInput, a_readyNode, a_readyTag, a_readyA, a_readyB, a_readyInput, a_result, a_resultTime, a_stepsAt) => wX_findOpen_7 post f_lines f_nodes f_edges f_depth f_tags f_readyFrom f_readyTo f_ranOrder f_isRun f_ended f_stepCount f_now n x1 f_opened a_lineKind a_lineA a_lineB a_lineC a_lineD a_openLine a_start a_nodeKind a_nodeNumber a_firstEdge a_edgeTo a_edgeInput a_nextEdge a_current a_keptFirst a_keptSecond a_openIs a_hasOther a_tagLoop a_tagRound a_tagAround a_waitNode a_waitTag a_waitValue a_waitInput a_readyNode a_readyTag a_readyA a_readyB a_readyInput a_result a_resultTime a_stepsAt
theorem xs_fo (w : cf_wf c) {post : SX → Prop} (H : ∀ fl', sk_a fl' (cf_st c (cf_n c)) → post (f_lines, nI (cf_st c (cf_n c)).length, f_nodes, f_edges, f_depth, f_tags, f_readyFrom, f_readyTo, f_ranOrder, f_isRun, f_ended, f_stepCount, f_now, a_lineKind, a_lineA, a_lineB, a_lineC, a_lineD, fl', a_start, a_nodeKind, a_nodeNumber, a_firstEdge, a_edgeTo, a_edgeInput, a_nextEdge, a_current, a_keptFirst, a_keptSecond, a_openIs, a_hasOther, a_tagLoop, a_tagRound, a_tagAround, a_waitNode, a_waitTag, a_waitValue, a_waitInput, a_readyNode, a_readyTag, a_readyA, a_readyB, a_readyInput, a_result, a_resultTime, a_stepsAt)) (hl0 : f_lines = nI (cf_n c)) (hk0 : a_lineKind = c.2.1) :
    ∀ m i, i + m = cf_n c → ∀ n, m < n → ∀ fl', sk_a fl' (cf_st c i) → ux_fo post n (nI i) (f_lines, nI (cf_st c i).length, f_nodes, f_edges, f_depth, f_tags, f_readyFrom, f_readyTo, f_ranOrder, f_isRun, f_ended, f_stepCount, f_now, a_lineKind, a_lineA, a_lineB, a_lineC, a_lineD, fl', a_start, a_nodeKind, a_nodeNumber, a_firstEdge, a_edgeTo, a_edgeInput, a_nextEdge, a_current, a_keptFirst, a_keptSecond, a_openIs, a_hasOther, a_tagLoop, a_tagRound, a_tagAround, a_waitNode, a_waitTag, a_waitValue, a_waitInput, a_readyNode, a_readyTag, a_readyA, a_readyB, a_readyInput, a_result, a_resultTime, a_stepsAt) := by
  have h20 := w.1
  intro m
  induction m with
  | zero =>
    intro i hi n hn fl' hs
    obtain ⟨n, rfl⟩ : ∃ n', n = n' + 1 := ⟨n - 1, by omega⟩
    have e : i = cf_n c := by omega
    subst e
    exact br_t (by rw [hl0]; exact nI_le (Nat.le_refl _) (by omega)) (H fl' hs)
  | succ m ih =>
    intro i hi n hn fl' hs
    obtain ⟨n, rfl⟩ : ∃ n', n = n' + 1 := ⟨n - 1, by omega⟩
    have hi' : i < cf_n c := by omega
    have hl := w.2 i hi'
    have eK : a_lineKind (nI i).toNatClampNeg = nI (cf_kd c i) := by rw [nI_clamp (by omega), hk0]; exact hl.1
    have hlen := cf_st_len w i (by omega)
    refine br_f (by rw [hl0]; exact nI_ge (by omega) (by omega)) (And.intro (vp_in_nI (by omega) (by decide)) (nm_r eK ?_))
    have hpush : (cf_kd c i = 2 ∨ cf_kd c i = 4) → wX_findOpen_32 post (wX_findOpen_7 post f_lines f_nodes f_edges f_depth f_tags f_readyFrom f_readyTo f_ranOrder f_isRun f_ended f_stepCount f_now n) (nI i) f_lines (nI (cf_st c i).length) f_nodes f_edges f_depth f_tags f_readyFrom f_readyTo f_ranOrder f_isRun f_ended f_stepCount f_now a_lineKind a_lineA a_lineB a_lineC a_lineD fl' a_start a_nodeKind a_nodeNumber a_firstEdge a_edgeTo a_edgeInput a_nextEdge a_current a_keptFirst a_keptSecond a_openIs a_hasOther a_tagLoop a_tagRound a_tagAround a_waitNode a_waitTag a_waitValue a_waitInput a_readyNode a_readyTag a_readyA a_readyB a_readyInput a_result a_resultTime a_stepsAt := by
      intro hk
      have h4 := hl.2.2.2.2.2.2 hk
      refine And.intro (vp_in_nI (by omega) (by decide)) (nm_r (e' := upd fl' (cf_st c i).length (nI i)) (by rw [nI_clamp (by omega)]) (nm_r (e' := nI ((cf_st c i).length + 1)) (nI_1 _) (nm_r (e' := nI (i + 1)) (nI_1 i) ?_)))
      have := ih (i + 1) (by omega) n (by omega) (upd fl' (cf_st c i).length (nI i)) (by rw [cf_st_c hk]; exact ⟨pk_us, sk_u _ (Nat.le_refl _) hs⟩)
      rw [cf_st_c hk, List.length_cons] at this
      exact this
    have hsame : cf_kd c i ≠ 2 → cf_kd c i ≠ 4 → cf_kd c i ≠ 5 → ux_fo post n (nI (i + 1)) (f_lines, nI (cf_st c i).length, f_nodes, f_edges, f_depth, f_tags, f_readyFrom, f_readyTo, f_ranOrder, f_isRun, f_ended, f_stepCount, f_now, a_lineKind, a_lineA, a_lineB, a_lineC, a_lineD, fl', a_start, a_nodeKind, a_nodeNumber, a_firstEdge, a_edgeTo, a_edgeInput, a_nextEdge, a_current, a_keptFirst, a_keptSecond, a_openIs, a_hasOther, a_tagLoop, a_tagRound, a_tagAround, a_waitNode, a_waitTag, a_waitValue, a_waitInput, a_readyNode, a_readyTag, a_readyA, a_readyB, a_readyInput, a_result, a_resultTime, a_stepsAt) := by
      intro a b d
      have e := cf_st_s a b d
      have := ih (i + 1) (by omega) n (by omega) fl' (by rw [e]; exact hs)
      rw [e] at this
      exact this
    rcases cf_k6 w hi' with g | g | g | g | g | g
    · rw [g]
      exact br_f (by decide) (br_f (by decide) (br_f (by decide) (nm_r (nI_1 i) (hsame (by omega) (by omega) (by omega)))))
    · rw [g]
      exact br_f (by decide) (br_f (by decide) (br_f (by decide) (nm_r (nI_1 i) (hsame (by omega) (by omega) (by omega)))))
    · rw [g]
      exact br_t rfl (hpush (Or.inl g))
    · rw [g]
      exact br_f (by decide) (br_f (by decide) (br_f (by decide) (nm_r (nI_1 i) (hsame (by omega) (by omega) (by omega)))))
    · rw [g]
      exact br_f (by decide) (br_t rfl (hpush (Or.inr g)))
    · rw [g]
      cases e1 : cf_st c i with
      | nil => exact absurd e1 (hl.2.2.2.2.2.1 g)
      | cons j r =>
        refine br_f (by decide) (br_f (by decide) (br_t rfl (nm_r (e' := nI r.length) (by rw [List.length_cons, nI_pred]) (nm_r (nI_1 i) ?_))))
        have e2 : cf_st c (i + 1) = r := by rw [cf_st_5 g, e1, List.tail_cons]
        rw [e1] at hs
        have := ih (i + 1) (by omega) n (by omega) fl' (by rw [e2]; exact hs.2)
        rw [e2] at this
        exact this
end
section
variable {c : CF}
variable {f_lines f_height f_steps f_last f_ending : Int32} {a_inputs a_sorts a_variables a_numbers a_firsts a_seconds a_pile a_closes a_others a_opens a_values a_times a_counts : Nat → Int32}
theorem ys_iv1 {post : Int32 → Prop} {j : Nat} (hj : j < 4) (H : post 1) : wpY_isVariable post (f_lines, f_height, f_steps, f_last, f_ending, a_inputs, a_sorts, a_variables, a_numbers, a_firsts, a_seconds, a_pile, a_closes, a_others, a_opens, a_values, a_times, a_counts) (nI j) := br_f (nI_pos (by omega)) (br_f (nI_nlt (a := 3) (by omega) (by decide)) H)
theorem ys_iv0 {post : Int32 → Prop} {x : Int32} (h : x < 0 ∨ (¬ x < 0 ∧ ¬ x ≤ 3)) (H : post 0) : wpY_isVariable post (f_lines, f_height, f_steps, f_last, f_ending, a_inputs, a_sorts, a_variables, a_numbers, a_firsts, a_seconds, a_pile, a_closes, a_others, a_opens, a_values, a_times, a_counts) x := by
  rcases h with h | ⟨h, h3⟩
  · exact br_t h H
  · exact br_f h (br_t (Int32.not_le.mp h3) H)
theorem ys_app {post : Int32 → SY → Prop} {n : Nat} {p0 p1 p2 p3 p4 : Int32} (hn : f_lines = nI n) (h : n < 20)
    (H : post (nI (n + 1)) (nI (n + 1), f_height, f_steps, f_last, f_ending, a_inputs, upd a_sorts n p0, upd a_variables n p1, upd a_numbers n p2, upd a_firsts n p3, upd a_seconds n p4, a_pile, a_closes, a_others, a_opens, a_values, a_times, a_counts)) : wpY_append post (f_lines, f_height, f_steps, f_last, f_ending, a_inputs, a_sorts, a_variables, a_numbers, a_firsts, a_seconds, a_pile, a_closes, a_others, a_opens, a_values, a_times, a_counts) p0 p1 p2 p3 p4 := by
  subst hn
  have hin : vp_in (nI n) 20 := vp_in_nI h (by decide)
  have hc : (nI n).toNatClampNeg = n := nI_clamp (by omega)
  refine br_f (fun z => ?_) (And.intro hin (nm_r (e' := upd a_sorts n p0) (by rw [hc]) (And.intro hin (nm_r (e' := upd a_variables n p1) (by rw [hc]) (And.intro hin (nm_r (e' := upd a_numbers n p2) (by rw [hc]) (And.intro hin (nm_r (e' := upd a_firsts n p3) (by rw [hc]) (And.intro hin (nm_r (e' := upd a_seconds n p4) (by rw [hc]) (nm_r (e' := nI (n + 1)) (nI_1 n) H)))))))))))
  have := (nI_eq (b := 20) (by omega) (by decide)).mp z
  omega
theorem ys_app_f {post : Int32 → SY → Prop} {p0 p1 p2 p3 p4 : Int32} (hn : f_lines = nI 20) (H : post (-1000000002) (f_lines, f_height, f_steps, f_last, f_ending, a_inputs, a_sorts, a_variables, a_numbers, a_firsts, a_seconds, a_pile, a_closes, a_others, a_opens, a_values, a_times, a_counts)) : wpY_append post (f_lines, f_height, f_steps, f_last, f_ending, a_inputs, a_sorts, a_variables, a_numbers, a_firsts, a_seconds, a_pile, a_closes, a_others, a_opens, a_values, a_times, a_counts) p0 p1 p2 p3 p4 := br_t hn H
end
end
section
/-! both runs find the same -/
section
variable {c : CF}
theorem hl_eq (k : cf_ok c) {K K' : Nat} (h : cf_n c ≤ mi c K) (h' : cf_n c ≤ mi c K') : mv c K = mv c K' ∧ mt c K = mt c K' ∧ mc_fl c K = mc_fl c K' := by
  rcases Nat.le_total K K' with g | g
  · obtain ⟨_, _, _, a, b, _⟩ := mc_halt k h (K' - K)
    have d := mc_cnt_h k h (K' - K)
    rw [show K + (K' - K) = K' from by omega] at a b d
    exact ⟨a.symm, b.symm, d.symm⟩
  · obtain ⟨_, _, _, a, b, _⟩ := mc_halt k h' (K - K')
    have d := mc_cnt_h k h' (K - K')
    rw [show K' + (K - K') = K from by omega] at a b d
    exact ⟨a, b, d⟩
theorem hl_no (k : cf_ok c) {K K' : Nat} (h : cf_n c ≤ mi c K) (h4 : mc_cnt c K ≤ 400) : ¬ 400 < mc_cnt c K' := by
  intro z
  rcases Nat.le_total K K' with g | g
  · have d := mc_cnt_h k h (K' - K)
    rw [show K + (K' - K) = K' from by omega] at d
    rw [mc_cnt] at z h4
    rw [d] at z
    omega
  · have d := mc_cnt_mono k (K := K') (K - K')
    rw [show K' + (K - K') = K from by omega] at d
    omega
theorem rm_eq (w : cf_wf c) {ord e sc e' st la : Int32} {res rsT sa vals tms cts : Nat → Int32} (hx : ro_I c ord e sc res rsT sa) (hy : yo_I c e' st la vals tms cts) :
    e' = e ∧ (e = 0 → ∃ K, mc_cnt c K ≤ 400 ∧ (∀ x, x < 5 → vals x = res x) ∧ (ord = 2 → st = sc ∧ (∀ x, x < 5 → tms x = rsT x) ∧ (∀ t, t < 402 → cts t = sa t ∧ sa t = nI (mc_ct c K t)) ∧
      ∃ l, la = nI l ∧ l ≤ 400 ∧ (∀ t, 0 < mc_ct c K t → t ≤ l) ∧ (l = 0 ∨ 0 < mc_ct c K l))) := by
  rcases hx with ⟨a1, a2⟩ | ⟨a1, ⟨a2, K1, b1, b2, b3, b4⟩ | ⟨a2, K1, b1⟩⟩ <;> rcases hy with ⟨c1, c2⟩ | ⟨c1, ⟨c2, K2, d1, d2, d3, d4, d5, d6⟩ | ⟨c2, K2, d1⟩⟩
  · exact ⟨by rw [a2, c2], fun z => by rw [a2] at z; exact absurd z (by decide)⟩
  · exact absurd c1 a1
  · exact absurd c1 a1
  · exact absurd a1 c1
  · have k : cf_ok c := ⟨w, a1⟩
    obtain ⟨e1, e2, e3⟩ := hl_eq k b1 d1
    refine ⟨by rw [a2, c2], fun _ => ⟨K2, d2, fun x hx => by rw [(d4 x hx).1, b3 x hx, e1], fun ho => ?_⟩⟩
    obtain ⟨f1, f2, f3⟩ := b4 ho
    refine ⟨?_, fun x hx => by rw [(d4 x hx).2, f2 x hx, e2], fun t ht => ?_, d6⟩
    · rw [d3, f1, mc_cnt, mc_cnt, e3]
    · have g : sa t = nI (mc_ct c K2 t) := by rw [f3 t ht, mc_ct, mc_ct, e3]
      exact ⟨by rw [d5 t ht, g], g⟩
  · exact absurd d1 (hl_no ⟨w, a1⟩ b1 b2)
  · exact absurd a1 c1
  · exact absurd b1 (hl_no ⟨w, a1⟩ d1 d2)
  · exact ⟨by rw [a2, c2], fun z => by rw [a2] at z; exact absurd z (by decide)⟩
end
def wd_f (a : Nat → Int32) : Nat → Int32
  | 0 => 0
  | t + 1 => if a t ≤ wd_f a t then wd_f a t else a t
def ls_f (a : Nat → Int32) : Nat → Int32
  | 0 => 0
  | t + 1 => if a t ≤ 0 then ls_f a t else nI t
theorem wd_c {a b : Nat → Int32} : ∀ N, (∀ t, t < N → a t = b t) → wd_f a N = wd_f b N
  | 0, _ => rfl
  | t + 1, h => by rw [wd_f, wd_f, wd_c t (fun s hs => h s (by omega)), h t (by omega)]
theorem ls_l {a : Nat → Int32} {ct : Nat → Nat} {l : Nat} (h : ∀ t, t < 402 → a t = nI (ct t)) (hb : ∀ t, ct t < 1000) (h1 : ∀ t, 0 < ct t → t ≤ l) (h2 : l = 0 ∨ 0 < ct l) (hl : l ≤ 400) : ls_f a 402 = nI l := by
  have key : ∀ d, l + 1 + d ≤ 402 → ls_f a (l + 1 + d) = nI l := by
    intro d
    induction d with
    | zero =>
      intro _
      rw [Nat.add_zero, ls_f, h l (by omega)]
      by_cases g : 0 < ct l
      · rw [if_neg (nI_nle g (by have := hb l; omega))]
      · have e : ct l = 0 := by omega
        have e0 : l = 0 := by omega
        subst e0
        rw [e, if_pos (by decide)]
        rfl
    | succ d ih =>
      intro hd
      rw [show l + 1 + (d + 1) = l + 1 + d + 1 from rfl, ls_f, ih (by omega), h (l + 1 + d) (by omega)]
      have e : ct (l + 1 + d) = 0 := by
        by_cases g : 0 < ct (l + 1 + d)
        · have := h1 _ g
          omega
        · omega
      rw [e, if_pos (by decide)]
  have := key (401 - l) (by omega)
  rw [show l + 1 + (401 - l) = 402 from by omega] at this
  exact this
section
variable {f_lines f_opened f_nodes f_edges f_depth f_tags f_readyFrom f_readyTo f_ranOrder f_isRun f_ended f_stepCount f_now : Int32} {a_lineKind a_lineA a_lineB a_lineC a_lineD a_openLine a_start a_nodeKind a_nodeNumber a_firstEdge a_edgeTo a_edgeInput a_nextEdge a_current a_keptFirst a_keptSecond a_openIs a_hasOther a_tagLoop a_tagRound a_tagAround a_waitNode a_waitTag a_waitValue a_waitInput a_readyNode a_readyTag a_readyA a_readyB a_readyInput a_result a_resultTime a_stepsAt : Nat → Int32}
theorem xs_wid {post : Int32 → SX → Prop} (H : (f_ended = 0 → post (wd_f a_stepsAt 402) (f_lines, f_opened, f_nodes, f_edges, f_depth, f_tags, f_readyFrom, f_readyTo, f_ranOrder, f_isRun, f_ended, f_stepCount, f_now, a_lineKind, a_lineA, a_lineB, a_lineC, a_lineD, a_openLine, a_start, a_nodeKind, a_nodeNumber, a_firstEdge, a_edgeTo, a_edgeInput, a_nextEdge, a_current, a_keptFirst, a_keptSecond, a_openIs, a_hasOther, a_tagLoop, a_tagRound, a_tagAround, a_waitNode, a_waitTag, a_waitValue, a_waitInput, a_readyNode, a_readyTag, a_readyA, a_readyB, a_readyInput, a_result, a_resultTime, a_stepsAt)) ∧ (¬ f_ended = 0 → post (-1000000003) (f_lines, f_opened, f_nodes, f_edges, f_depth, f_tags, f_readyFrom, f_readyTo, f_ranOrder, f_isRun, f_ended, f_stepCount, f_now, a_lineKind, a_lineA, a_lineB, a_lineC, a_lineD, a_openLine, a_start, a_nodeKind, a_nodeNumber, a_firstEdge, a_edgeTo, a_edgeInput, a_nextEdge, a_current, a_keptFirst, a_keptSecond, a_openIs, a_hasOther, a_tagLoop, a_tagRound, a_tagAround, a_waitNode, a_waitTag, a_waitValue, a_waitInput, a_readyNode, a_readyTag, a_readyA, a_readyB, a_readyInput, a_result, a_resultTime, a_stepsAt))) :
    ∀ m t, t + m = 402 → ∀ n, m < n → wX_widest_9 post f_lines f_opened f_nodes f_edges f_depth f_tags f_readyFrom f_readyTo f_ranOrder f_isRun f_ended f_stepCount f_now a_lineKind a_lineA a_lineB a_lineC a_lineD a_openLine a_start a_nodeKind a_nodeNumber a_firstEdge a_edgeTo a_edgeInput a_nextEdge a_current a_keptFirst a_keptSecond a_openIs a_hasOther a_tagLoop a_tagRound a_tagAround a_waitNode a_waitTag a_waitValue a_waitInput a_readyNode a_readyTag a_readyA a_readyB a_readyInput a_result a_resultTime a_stepsAt n (wd_f a_stepsAt t) (nI t) := by
  intro m
  induction m with
  | zero =>
    intro t ht n hn
    obtain ⟨n, rfl⟩ : ∃ n', n = n' + 1 := ⟨n - 1, by omega⟩
    have : t = 402 := by omega
    subst this
    exact br_t (by decide) H
  | succ m ih =>
    intro t ht n hn
    obtain ⟨n, rfl⟩ : ∃ n', n = n' + 1 := ⟨n - 1, by omega⟩
    have hin : vp_in (nI t) 402 := vp_in_nI (by omega) (by decide)
    have hc : (nI t).toNatClampNeg = t := nI_clamp (by omega)
    have hi := ih (t + 1) (by omega) n (by omega)
    rw [wd_f] at hi
    refine br_f (nI_ge (b := 402) (by omega) (by decide)) (And.intro hin ?_)
    rw [hc]
    by_cases g : a_stepsAt t ≤ wd_f a_stepsAt t
    · rw [if_pos g] at hi
      exact br_t g (nm_r (nI_1 t) hi)
    · rw [if_neg g] at hi
      exact br_f g (And.intro hin (nm_e (nm_r (nI_1 t) hi)))
theorem xs_lst {post : Int32 → SX → Prop} (H : (f_ended = 0 → post (ls_f a_stepsAt 402) (f_lines, f_opened, f_nodes, f_edges, f_depth, f_tags, f_readyFrom, f_readyTo, f_ranOrder, f_isRun, f_ended, f_stepCount, f_now, a_lineKind, a_lineA, a_lineB, a_lineC, a_lineD, a_openLine, a_start, a_nodeKind, a_nodeNumber, a_firstEdge, a_edgeTo, a_edgeInput, a_nextEdge, a_current, a_keptFirst, a_keptSecond, a_openIs, a_hasOther, a_tagLoop, a_tagRound, a_tagAround, a_waitNode, a_waitTag, a_waitValue, a_waitInput, a_readyNode, a_readyTag, a_readyA, a_readyB, a_readyInput, a_result, a_resultTime, a_stepsAt)) ∧ (¬ f_ended = 0 → post (-1000000003) (f_lines, f_opened, f_nodes, f_edges, f_depth, f_tags, f_readyFrom, f_readyTo, f_ranOrder, f_isRun, f_ended, f_stepCount, f_now, a_lineKind, a_lineA, a_lineB, a_lineC, a_lineD, a_openLine, a_start, a_nodeKind, a_nodeNumber, a_firstEdge, a_edgeTo, a_edgeInput, a_nextEdge, a_current, a_keptFirst, a_keptSecond, a_openIs, a_hasOther, a_tagLoop, a_tagRound, a_tagAround, a_waitNode, a_waitTag, a_waitValue, a_waitInput, a_readyNode, a_readyTag, a_readyA, a_readyB, a_readyInput, a_result, a_resultTime, a_stepsAt))) :
    ∀ m t, t + m = 402 → ∀ n, m < n → wX_last_9 post f_lines f_opened f_nodes f_edges f_depth f_tags f_readyFrom f_readyTo f_ranOrder f_isRun f_ended f_stepCount f_now a_lineKind a_lineA a_lineB a_lineC a_lineD a_openLine a_start a_nodeKind a_nodeNumber a_firstEdge a_edgeTo a_edgeInput a_nextEdge a_current a_keptFirst a_keptSecond a_openIs a_hasOther a_tagLoop a_tagRound a_tagAround a_waitNode a_waitTag a_waitValue a_waitInput a_readyNode a_readyTag a_readyA a_readyB a_readyInput a_result a_resultTime a_stepsAt n (ls_f a_stepsAt t) (nI t) := by
  intro m
  induction m with
  | zero =>
    intro t ht n hn
    obtain ⟨n, rfl⟩ : ∃ n', n = n' + 1 := ⟨n - 1, by omega⟩
    have : t = 402 := by omega
    subst this
    exact br_t (by decide) H
  | succ m ih =>
    intro t ht n hn
    obtain ⟨n, rfl⟩ : ∃ n', n = n' + 1 := ⟨n - 1, by omega⟩
    have hin : vp_in (nI t) 402 := vp_in_nI (by omega) (by decide)
    have hc : (nI t).toNatClampNeg = t := nI_clamp (by omega)
    have hi := ih (t + 1) (by omega) n (by omega)
    rw [ls_f] at hi
    refine br_f (nI_ge (b := 402) (by omega) (by decide)) (And.intro hin ?_)
    rw [hc]
    by_cases g : a_stepsAt t ≤ 0
    · rw [if_pos g] at hi
      exact br_t g (nm_r (nI_1 t) hi)
    · rw [if_neg g] at hi
      exact br_f g (nm_r (nI_1 t) hi)
end
section
variable {f_lines f_height f_steps f_last f_ending : Int32} {a_inputs a_sorts a_variables a_numbers a_firsts a_seconds a_pile a_closes a_others a_opens a_values a_times a_counts : Nat → Int32}
theorem ys_wid {post : Int32 → SY → Prop} (H : (f_ending = 0 → post (wd_f a_counts 402) (f_lines, f_height, f_steps, f_last, f_ending, a_inputs, a_sorts, a_variables, a_numbers, a_firsts, a_seconds, a_pile, a_closes, a_others, a_opens, a_values, a_times, a_counts)) ∧ (¬ f_ending = 0 → post (-1000000003) (f_lines, f_height, f_steps, f_last, f_ending, a_inputs, a_sorts, a_variables, a_numbers, a_firsts, a_seconds, a_pile, a_closes, a_others, a_opens, a_values, a_times, a_counts))) :
    ∀ m t, t + m = 402 → ∀ n, m < n → wY_widest_8 post f_lines f_height f_steps f_last f_ending a_inputs a_sorts a_variables a_numbers a_firsts a_seconds a_pile a_closes a_others a_opens a_values a_times a_counts n (wd_f a_counts t) (nI t) := by
  intro m
  induction m with
  | zero =>
    intro t ht n hn
    obtain ⟨n, rfl⟩ : ∃ n', n = n' + 1 := ⟨n - 1, by omega⟩
    have : t = 402 := by omega
    subst this
    exact br_t (by decide) H
  | succ m ih =>
    intro t ht n hn
    obtain ⟨n, rfl⟩ : ∃ n', n = n' + 1 := ⟨n - 1, by omega⟩
    have hin : vp_in (nI t) 402 := vp_in_nI (by omega) (by decide)
    have hc : (nI t).toNatClampNeg = t := nI_clamp (by omega)
    have hi := ih (t + 1) (by omega) n (by omega)
    rw [wd_f] at hi
    refine br_f (nI_ge (b := 402) (by omega) (by decide)) (And.intro hin ?_)
    rw [hc]
    by_cases g : a_counts t ≤ wd_f a_counts t
    · rw [if_pos g] at hi
      exact br_t g (nm_r (nI_1 t) hi)
    · rw [if_neg g] at hi
      exact br_f g (And.intro hin (nm_e (nm_r (nI_1 t) hi)))
end
end
section
/-! the relation: one program, the component's stack of pending lines, what its last run found -/
def i_Rel (k : Nat) (u : SX) (v : SY) : Prop := ∃ (c : CF) (fl : Nat → Int32), cf_wf c ∧ px_I c (nI (cf_st c (cf_n c)).length) fl u ∧ sk_a fl (cf_st c (cf_n c)) ∧ (match u with
  | (f_lines, f_opened, f_nodes, f_edges, f_depth, f_tags, f_readyFrom, f_readyTo, f_ranOrder, f_isRun, f_ended, f_stepCount, f_now, a_lineKind, a_lineA, a_lineB, a_lineC, a_lineD, a_openLine, a_start, a_nodeKind, a_nodeNumber, a_firstEdge, a_edgeTo, a_edgeInput, a_nextEdge, a_current, a_keptFirst, a_keptSecond, a_openIs, a_hasOther, a_tagLoop, a_tagRound, a_tagAround, a_waitNode, a_waitTag, a_waitValue, a_waitInput, a_readyNode, a_readyTag, a_readyA, a_readyB, a_readyInput, a_result, a_resultTime, a_stepsAt) => f_isRun = 0 ∨ ro_I c f_ranOrder f_ended f_stepCount a_result a_resultTime a_stepsAt) ∧ py_I c v
theorem i_up {k : Nat} {u : SX} {v : SY} (h : i_Rel k u v) : i_Rel (k + 5) u v := h
theorem i_vc0 : wpX_init (fun u => wpY_init (fun v => i_Rel 0 u v)) := by
  refine ⟨(0, (fun _ => 0), (fun _ => 0), (fun _ => 0), (fun _ => 0), (fun _ => 0), (fun _ => 0)), (fun _ => 0), ⟨by decide, fun i hi => absurd hi (Nat.not_lt_zero _)⟩, ?_, trivial, Or.inl rfl, ?_⟩
  · exact ⟨rfl, rfl, rfl, rfl, rfl, rfl, rfl, rfl, rfl⟩
  · exact ⟨rfl, rfl, rfl, rfl, rfl, rfl, rfl⟩
section
variable {f_lines f_opened f_nodes f_edges f_depth f_tags f_readyFrom f_readyTo f_ranOrder f_isRun f_ended f_stepCount f_now : Int32} {a_lineKind a_lineA a_lineB a_lineC a_lineD a_openLine a_start a_nodeKind a_nodeNumber a_firstEdge a_edgeTo a_edgeInput a_nextEdge a_current a_keptFirst a_keptSecond a_openIs a_hasOther a_tagLoop a_tagRound a_tagAround a_waitNode a_waitTag a_waitValue a_waitInput a_readyNode a_readyTag a_readyA a_readyB a_readyInput a_result a_resultTime a_stepsAt : Nat → Int32}
theorem i_vc_run {k : Nat} {u : SX} {v : SY} (I : i_Rel k u v) (hk : k + 5 ≤ 2560) : wpX_run (fun r u' => wpY_run (fun r' v' => r' = r ∧ i_Rel (k + 5) u' v') v) u := by
  obtain ⟨c, fl, w, hp, hs, hc, hy⟩ := I
  obtain ⟨f_lines, f_opened, f_nodes, f_edges, f_depth, f_tags, f_readyFrom, f_readyTo, f_ranOrder, f_isRun, f_ended, f_stepCount, f_now, a_lineKind, a_lineA, a_lineB, a_lineC, a_lineD, a_openLine, a_start, a_nodeKind, a_nodeNumber, a_firstEdge, a_edgeTo, a_edgeInput, a_nextEdge, a_current, a_keptFirst, a_keptSecond, a_openIs, a_hasOther, a_tagLoop, a_tagRound, a_tagAround, a_waitNode, a_waitTag, a_waitValue, a_waitInput, a_readyNode, a_readyTag, a_readyA, a_readyB, a_readyInput, a_result, a_resultTime, a_stepsAt⟩ := u
  unfold wpX_run
  refine xs_runBy (c := c) (fl := fl) w (Or.inr (Or.inr rfl)) rfl (cf_st_len w _ (Nat.le_refl _)) ?_ (f_lines, f_opened, f_nodes, f_edges, f_depth, f_tags, f_readyFrom, f_readyTo, f_ranOrder, f_isRun, f_ended, f_stepCount, f_now, a_lineKind, a_lineA, a_lineB, a_lineC, a_lineD, a_openLine, a_start, a_nodeKind, a_nodeNumber, a_firstEdge, a_edgeTo, a_edgeInput, a_nextEdge, a_current, a_keptFirst, a_keptSecond, a_openIs, a_hasOther, a_tagLoop, a_tagRound, a_tagAround, a_waitNode, a_waitTag, a_waitValue, a_waitInput, a_readyNode, a_readyTag, a_readyA, a_readyB, a_readyInput, a_result, a_resultTime, a_stepsAt) hp hc
  intro u hp hr
  obtain ⟨f_lines, f_opened, f_nodes, f_edges, f_depth, f_tags, f_readyFrom, f_readyTo, f_ranOrder, f_isRun, f_ended, f_stepCount, f_now, a_lineKind, a_lineA, a_lineB, a_lineC, a_lineD, a_openLine, a_start, a_nodeKind, a_nodeNumber, a_firstEdge, a_edgeTo, a_edgeInput, a_nextEdge, a_current, a_keptFirst, a_keptSecond, a_openIs, a_hasOther, a_tagLoop, a_tagRound, a_tagAround, a_waitNode, a_waitTag, a_waitValue, a_waitInput, a_readyNode, a_readyTag, a_readyA, a_readyB, a_readyInput, a_result, a_resultTime, a_stepsAt⟩ := u
  unfold wpY_run
  obtain ⟨f_lines, f_height, f_steps, f_last, f_ending, a_inputs, a_sorts, a_variables, a_numbers, a_firsts, a_seconds, a_pile, a_closes, a_others, a_opens, a_values, a_times, a_counts⟩ := v
  refine ys_work w ?_ (f_lines, f_height, f_steps, f_last, f_ending, a_inputs, a_sorts, a_variables, a_numbers, a_firsts, a_seconds, a_pile, a_closes, a_others, a_opens, a_values, a_times, a_counts) hy
  intro v hy hyo
  obtain ⟨f_lines, f_height, f_steps, f_last, f_ending, a_inputs, a_sorts, a_variables, a_numbers, a_firsts, a_seconds, a_pile, a_closes, a_others, a_opens, a_values, a_times, a_counts⟩ := v
  exact ⟨(rm_eq w hr.2 hyo).1, c, fl, w, hp, hs, Or.inr (by rw [hr.1]; exact hr.2), hy⟩
theorem i_vc_go {k : Nat} {u : SX} {v : SY} (I : i_Rel k u v) (hk : k + 5 ≤ 2560) : wpX_go (fun r u' => wpY_go (fun r' v' => r' = r ∧ i_Rel (k + 5) u' v') v) u := by
  obtain ⟨c, fl, w, hp, hs, hc, hy⟩ := I
  obtain ⟨f_lines, f_opened, f_nodes, f_edges, f_depth, f_tags, f_readyFrom, f_readyTo, f_ranOrder, f_isRun, f_ended, f_stepCount, f_now, a_lineKind, a_lineA, a_lineB, a_lineC, a_lineD, a_openLine, a_start, a_nodeKind, a_nodeNumber, a_firstEdge, a_edgeTo, a_edgeInput, a_nextEdge, a_current, a_keptFirst, a_keptSecond, a_openIs, a_hasOther, a_tagLoop, a_tagRound, a_tagAround, a_waitNode, a_waitTag, a_waitValue, a_waitInput, a_readyNode, a_readyTag, a_readyA, a_readyB, a_readyInput, a_result, a_resultTime, a_stepsAt⟩ := u
  unfold wpX_go
  refine xs_runBy (c := c) (fl := fl) w (Or.inr (Or.inr rfl)) rfl (cf_st_len w _ (Nat.le_refl _)) ?_ (f_lines, f_opened, f_nodes, f_edges, f_depth, f_tags, f_readyFrom, f_readyTo, f_ranOrder, f_isRun, f_ended, f_stepCount, f_now, a_lineKind, a_lineA, a_lineB, a_lineC, a_lineD, a_openLine, a_start, a_nodeKind, a_nodeNumber, a_firstEdge, a_edgeTo, a_edgeInput, a_nextEdge, a_current, a_keptFirst, a_keptSecond, a_openIs, a_hasOther, a_tagLoop, a_tagRound, a_tagAround, a_waitNode, a_waitTag, a_waitValue, a_waitInput, a_readyNode, a_readyTag, a_readyA, a_readyB, a_readyInput, a_result, a_resultTime, a_stepsAt) hp hc
  intro u hp hr
  obtain ⟨f_lines, f_opened, f_nodes, f_edges, f_depth, f_tags, f_readyFrom, f_readyTo, f_ranOrder, f_isRun, f_ended, f_stepCount, f_now, a_lineKind, a_lineA, a_lineB, a_lineC, a_lineD, a_openLine, a_start, a_nodeKind, a_nodeNumber, a_firstEdge, a_edgeTo, a_edgeInput, a_nextEdge, a_current, a_keptFirst, a_keptSecond, a_openIs, a_hasOther, a_tagLoop, a_tagRound, a_tagAround, a_waitNode, a_waitTag, a_waitValue, a_waitInput, a_readyNode, a_readyTag, a_readyA, a_readyB, a_readyInput, a_result, a_resultTime, a_stepsAt⟩ := u
  have hc' : f_isRun = 0 ∨ ro_I c f_ranOrder f_ended f_stepCount a_result a_resultTime a_stepsAt := Or.inr (by rw [hr.1]; exact hr.2)
  have hY : ∀ R, (∀ f_ending f_steps f_last a_values a_times a_counts, yo_I c f_ending f_steps f_last a_values a_times a_counts → (f_ending = 0 → a_times 4 = R) ∧ (¬ f_ending = 0 → (-1000000003) = R)) → wpY_go (fun r' v' => r' = R ∧ i_Rel (k + 5) (f_lines, f_opened, f_nodes, f_edges, f_depth, f_tags, f_readyFrom, f_readyTo, f_ranOrder, f_isRun, f_ended, f_stepCount, f_now, a_lineKind, a_lineA, a_lineB, a_lineC, a_lineD, a_openLine, a_start, a_nodeKind, a_nodeNumber, a_firstEdge, a_edgeTo, a_edgeInput, a_nextEdge, a_current, a_keptFirst, a_keptSecond, a_openIs, a_hasOther, a_tagLoop, a_tagRound, a_tagAround, a_waitNode, a_waitTag, a_waitValue, a_waitInput, a_readyNode, a_readyTag, a_readyA, a_readyB, a_readyInput, a_result, a_resultTime, a_stepsAt) v') v := by
    intro R hR
    unfold wpY_go
    obtain ⟨f_lines, f_height, f_steps, f_last, f_ending, a_inputs, a_sorts, a_variables, a_numbers, a_firsts, a_seconds, a_pile, a_closes, a_others, a_opens, a_values, a_times, a_counts⟩ := v
    refine ys_work w ?_ (f_lines, f_height, f_steps, f_last, f_ending, a_inputs, a_sorts, a_variables, a_numbers, a_firsts, a_seconds, a_pile, a_closes, a_others, a_opens, a_values, a_times, a_counts) hy
    intro v hy hyo
    obtain ⟨f_lines, f_height, f_steps, f_last, f_ending, a_inputs, a_sorts, a_variables, a_numbers, a_firsts, a_seconds, a_pile, a_closes, a_others, a_opens, a_values, a_times, a_counts⟩ := v
    obtain ⟨h1, h2⟩ := hR _ _ _ _ _ _ hyo
    exact br_c (fun z => ⟨h1 z, c, fl, w, hp, hs, hc', hy⟩) (fun z => ⟨h2 z, c, fl, w, hp, hs, hc', hy⟩)
  refine br_c (fun z => ?_) (fun z => ?_)
  · refine hY _ (fun e st la vals tms cts hyo => ?_)
    obtain ⟨h1, h2⟩ := rm_eq w hr.2 hyo
    obtain ⟨K, _, _, h3⟩ := h2 z
    exact ⟨fun _ => (h3 rfl).2.1 4 (by omega), fun y => absurd (h1.trans z) y⟩
  · refine hY _ (fun e st la vals tms cts hyo => ?_)
    obtain ⟨h1, h2⟩ := rm_eq w hr.2 hyo
    exact ⟨fun y => absurd (h1.symm.trans y) z, fun _ => rfl⟩
end
end
section
section
variable {f_lines f_opened f_nodes f_edges f_depth f_tags f_readyFrom f_readyTo f_ranOrder f_isRun f_ended f_stepCount f_now : Int32} {a_lineKind a_lineA a_lineB a_lineC a_lineD a_openLine a_start a_nodeKind a_nodeNumber a_firstEdge a_edgeTo a_edgeInput a_nextEdge a_current a_keptFirst a_keptSecond a_openIs a_hasOther a_tagLoop a_tagRound a_tagAround a_waitNode a_waitTag a_waitValue a_waitInput a_readyNode a_readyTag a_readyA a_readyB a_readyInput a_result a_resultTime a_stepsAt : Nat → Int32}
theorem i_vc_steps {k : Nat} {u : SX} {v : SY} (I : i_Rel k u v) (hk : k + 5 ≤ 2560) : wpX_steps (fun r u' => wpY_steps (fun r' v' => r' = r ∧ i_Rel (k + 5) u' v') v) u := by
  obtain ⟨c, fl, w, hp, hs, hc, hy⟩ := I
  obtain ⟨f_lines, f_opened, f_nodes, f_edges, f_depth, f_tags, f_readyFrom, f_readyTo, f_ranOrder, f_isRun, f_ended, f_stepCount, f_now, a_lineKind, a_lineA, a_lineB, a_lineC, a_lineD, a_openLine, a_start, a_nodeKind, a_nodeNumber, a_firstEdge, a_edgeTo, a_edgeInput, a_nextEdge, a_current, a_keptFirst, a_keptSecond, a_openIs, a_hasOther, a_tagLoop, a_tagRound, a_tagAround, a_waitNode, a_waitTag, a_waitValue, a_waitInput, a_readyNode, a_readyTag, a_readyA, a_readyB, a_readyInput, a_result, a_resultTime, a_stepsAt⟩ := u
  unfold wpX_steps
  refine xs_runBy (c := c) (fl := fl) w (Or.inr (Or.inr rfl)) rfl (cf_st_len w _ (Nat.le_refl _)) ?_ (f_lines, f_opened, f_nodes, f_edges, f_depth, f_tags, f_readyFrom, f_readyTo, f_ranOrder, f_isRun, f_ended, f_stepCount, f_now, a_lineKind, a_lineA, a_lineB, a_lineC, a_lineD, a_openLine, a_start, a_nodeKind, a_nodeNumber, a_firstEdge, a_edgeTo, a_edgeInput, a_nextEdge, a_current, a_keptFirst, a_keptSecond, a_openIs, a_hasOther, a_tagLoop, a_tagRound, a_tagAround, a_waitNode, a_waitTag, a_waitValue, a_waitInput, a_readyNode, a_readyTag, a_readyA, a_readyB, a_readyInput, a_result, a_resultTime, a_stepsAt) hp hc
  intro u hp hr
  obtain ⟨f_lines, f_opened, f_nodes, f_edges, f_depth, f_tags, f_readyFrom, f_readyTo, f_ranOrder, f_isRun, f_ended, f_stepCount, f_now, a_lineKind, a_lineA, a_lineB, a_lineC, a_lineD, a_openLine, a_start, a_nodeKind, a_nodeNumber, a_firstEdge, a_edgeTo, a_edgeInput, a_nextEdge, a_current, a_keptFirst, a_keptSecond, a_openIs, a_hasOther, a_tagLoop, a_tagRound, a_tagAround, a_waitNode, a_waitTag, a_waitValue, a_waitInput, a_readyNode, a_readyTag, a_readyA, a_readyB, a_readyInput, a_result, a_resultTime, a_stepsAt⟩ := u
  have hc' : f_isRun = 0 ∨ ro_I c f_ranOrder f_ended f_stepCount a_result a_resultTime a_stepsAt := Or.inr (by rw [hr.1]; exact hr.2)
  have hY : ∀ R, (∀ f_ending f_steps f_last a_values a_times a_counts, yo_I c f_ending f_steps f_last a_values a_times a_counts → (f_ending = 0 → f_steps = R) ∧ (¬ f_ending = 0 → (-1000000003) = R)) → wpY_steps (fun r' v' => r' = R ∧ i_Rel (k + 5) (f_lines, f_opened, f_nodes, f_edges, f_depth, f_tags, f_readyFrom, f_readyTo, f_ranOrder, f_isRun, f_ended, f_stepCount, f_now, a_lineKind, a_lineA, a_lineB, a_lineC, a_lineD, a_openLine, a_start, a_nodeKind, a_nodeNumber, a_firstEdge, a_edgeTo, a_edgeInput, a_nextEdge, a_current, a_keptFirst, a_keptSecond, a_openIs, a_hasOther, a_tagLoop, a_tagRound, a_tagAround, a_waitNode, a_waitTag, a_waitValue, a_waitInput, a_readyNode, a_readyTag, a_readyA, a_readyB, a_readyInput, a_result, a_resultTime, a_stepsAt) v') v := by
    intro R hR
    unfold wpY_steps
    obtain ⟨f_lines, f_height, f_steps, f_last, f_ending, a_inputs, a_sorts, a_variables, a_numbers, a_firsts, a_seconds, a_pile, a_closes, a_others, a_opens, a_values, a_times, a_counts⟩ := v
    refine ys_work w ?_ (f_lines, f_height, f_steps, f_last, f_ending, a_inputs, a_sorts, a_variables, a_numbers, a_firsts, a_seconds, a_pile, a_closes, a_others, a_opens, a_values, a_times, a_counts) hy
    intro v hy hyo
    obtain ⟨f_lines, f_height, f_steps, f_last, f_ending, a_inputs, a_sorts, a_variables, a_numbers, a_firsts, a_seconds, a_pile, a_closes, a_others, a_opens, a_values, a_times, a_counts⟩ := v
    obtain ⟨h1, h2⟩ := hR _ _ _ _ _ _ hyo
    exact br_c (fun z => ⟨h1 z, c, fl, w, hp, hs, hc', hy⟩) (fun z => ⟨h2 z, c, fl, w, hp, hs, hc', hy⟩)
  refine br_c (fun z => ?_) (fun z => ?_)
  · refine hY _ (fun e st la vals tms cts hyo => ?_)
    obtain ⟨h1, h2⟩ := rm_eq w hr.2 hyo
    obtain ⟨K, _, _, h3⟩ := h2 z
    exact ⟨fun _ => (h3 rfl).1, fun y => absurd (h1.trans z) y⟩
  · refine hY _ (fun e st la vals tms cts hyo => ?_)
    obtain ⟨h1, h2⟩ := rm_eq w hr.2 hyo
    exact ⟨fun y => absurd (h1.symm.trans y) z, fun _ => rfl⟩
theorem i_vc_widest {k : Nat} {u : SX} {v : SY} (I : i_Rel k u v) (hk : k + 5 ≤ 2560) : wpX_widest (fun r u' => wpY_widest (fun r' v' => r' = r ∧ i_Rel (k + 5) u' v') v) u := by
  obtain ⟨c, fl, w, hp, hs, hc, hy⟩ := I
  obtain ⟨f_lines, f_opened, f_nodes, f_edges, f_depth, f_tags, f_readyFrom, f_readyTo, f_ranOrder, f_isRun, f_ended, f_stepCount, f_now, a_lineKind, a_lineA, a_lineB, a_lineC, a_lineD, a_openLine, a_start, a_nodeKind, a_nodeNumber, a_firstEdge, a_edgeTo, a_edgeInput, a_nextEdge, a_current, a_keptFirst, a_keptSecond, a_openIs, a_hasOther, a_tagLoop, a_tagRound, a_tagAround, a_waitNode, a_waitTag, a_waitValue, a_waitInput, a_readyNode, a_readyTag, a_readyA, a_readyB, a_readyInput, a_result, a_resultTime, a_stepsAt⟩ := u
  unfold wpX_widest
  refine xs_runBy (c := c) (fl := fl) w (Or.inr (Or.inr rfl)) rfl (cf_st_len w _ (Nat.le_refl _)) ?_ (f_lines, f_opened, f_nodes, f_edges, f_depth, f_tags, f_readyFrom, f_readyTo, f_ranOrder, f_isRun, f_ended, f_stepCount, f_now, a_lineKind, a_lineA, a_lineB, a_lineC, a_lineD, a_openLine, a_start, a_nodeKind, a_nodeNumber, a_firstEdge, a_edgeTo, a_edgeInput, a_nextEdge, a_current, a_keptFirst, a_keptSecond, a_openIs, a_hasOther, a_tagLoop, a_tagRound, a_tagAround, a_waitNode, a_waitTag, a_waitValue, a_waitInput, a_readyNode, a_readyTag, a_readyA, a_readyB, a_readyInput, a_result, a_resultTime, a_stepsAt) hp hc
  intro u hp hr
  obtain ⟨f_lines, f_opened, f_nodes, f_edges, f_depth, f_tags, f_readyFrom, f_readyTo, f_ranOrder, f_isRun, f_ended, f_stepCount, f_now, a_lineKind, a_lineA, a_lineB, a_lineC, a_lineD, a_openLine, a_start, a_nodeKind, a_nodeNumber, a_firstEdge, a_edgeTo, a_edgeInput, a_nextEdge, a_current, a_keptFirst, a_keptSecond, a_openIs, a_hasOther, a_tagLoop, a_tagRound, a_tagAround, a_waitNode, a_waitTag, a_waitValue, a_waitInput, a_readyNode, a_readyTag, a_readyA, a_readyB, a_readyInput, a_result, a_resultTime, a_stepsAt⟩ := u
  have hc' : f_isRun = 0 ∨ ro_I c f_ranOrder f_ended f_stepCount a_result a_resultTime a_stepsAt := Or.inr (by rw [hr.1]; exact hr.2)
  have hY : ∀ R, (∀ f_ending f_steps f_last a_values a_times a_counts, yo_I c f_ending f_steps f_last a_values a_times a_counts → (f_ending = 0 → wd_f a_counts 402 = R) ∧ (¬ f_ending = 0 → (-1000000003) = R)) → wpY_widest (fun r' v' => r' = R ∧ i_Rel (k + 5) (f_lines, f_opened, f_nodes, f_edges, f_depth, f_tags, f_readyFrom, f_readyTo, f_ranOrder, f_isRun, f_ended, f_stepCount, f_now, a_lineKind, a_lineA, a_lineB, a_lineC, a_lineD, a_openLine, a_start, a_nodeKind, a_nodeNumber, a_firstEdge, a_edgeTo, a_edgeInput, a_nextEdge, a_current, a_keptFirst, a_keptSecond, a_openIs, a_hasOther, a_tagLoop, a_tagRound, a_tagAround, a_waitNode, a_waitTag, a_waitValue, a_waitInput, a_readyNode, a_readyTag, a_readyA, a_readyB, a_readyInput, a_result, a_resultTime, a_stepsAt) v') v := by
    intro R hR
    unfold wpY_widest
    obtain ⟨f_lines, f_height, f_steps, f_last, f_ending, a_inputs, a_sorts, a_variables, a_numbers, a_firsts, a_seconds, a_pile, a_closes, a_others, a_opens, a_values, a_times, a_counts⟩ := v
    refine ys_work w ?_ (f_lines, f_height, f_steps, f_last, f_ending, a_inputs, a_sorts, a_variables, a_numbers, a_firsts, a_seconds, a_pile, a_closes, a_others, a_opens, a_values, a_times, a_counts) hy
    intro v hy hyo
    obtain ⟨f_lines, f_height, f_steps, f_last, f_ending, a_inputs, a_sorts, a_variables, a_numbers, a_firsts, a_seconds, a_pile, a_closes, a_others, a_opens, a_values, a_times, a_counts⟩ := v
    obtain ⟨h1, h2⟩ := hR _ _ _ _ _ _ hyo
    exact ⟨403, ys_wid (br_c (fun z => ⟨h1 z, c, fl, w, hp, hs, hc', hy⟩) (fun z => ⟨h2 z, c, fl, w, hp, hs, hc', hy⟩)) 402 0 rfl 403 (by omega)⟩
  refine ⟨403, xs_wid (br_c (fun z => ?_) (fun z => ?_)) 402 0 rfl 403 (by omega)⟩
  · refine hY _ (fun e st la vals tms cts hyo => ?_)
    obtain ⟨h1, h2⟩ := rm_eq w hr.2 hyo
    obtain ⟨K, _, _, h3⟩ := h2 z
    exact ⟨fun _ => wd_c 402 (fun t ht => ((h3 rfl).2.2.1 t ht).1), fun y => absurd (h1.trans z) y⟩
  · refine hY _ (fun e st la vals tms cts hyo => ?_)
    obtain ⟨h1, h2⟩ := rm_eq w hr.2 hyo
    exact ⟨fun y => absurd (h1.symm.trans y) z, fun _ => rfl⟩
theorem i_vc_last {k : Nat} {u : SX} {v : SY} (I : i_Rel k u v) (hk : k + 5 ≤ 2560) : wpX_last (fun r u' => wpY_last (fun r' v' => r' = r ∧ i_Rel (k + 5) u' v') v) u := by
  obtain ⟨c, fl, w, hp, hs, hc, hy⟩ := I
  obtain ⟨f_lines, f_opened, f_nodes, f_edges, f_depth, f_tags, f_readyFrom, f_readyTo, f_ranOrder, f_isRun, f_ended, f_stepCount, f_now, a_lineKind, a_lineA, a_lineB, a_lineC, a_lineD, a_openLine, a_start, a_nodeKind, a_nodeNumber, a_firstEdge, a_edgeTo, a_edgeInput, a_nextEdge, a_current, a_keptFirst, a_keptSecond, a_openIs, a_hasOther, a_tagLoop, a_tagRound, a_tagAround, a_waitNode, a_waitTag, a_waitValue, a_waitInput, a_readyNode, a_readyTag, a_readyA, a_readyB, a_readyInput, a_result, a_resultTime, a_stepsAt⟩ := u
  unfold wpX_last
  refine xs_runBy (c := c) (fl := fl) w (Or.inr (Or.inr rfl)) rfl (cf_st_len w _ (Nat.le_refl _)) ?_ (f_lines, f_opened, f_nodes, f_edges, f_depth, f_tags, f_readyFrom, f_readyTo, f_ranOrder, f_isRun, f_ended, f_stepCount, f_now, a_lineKind, a_lineA, a_lineB, a_lineC, a_lineD, a_openLine, a_start, a_nodeKind, a_nodeNumber, a_firstEdge, a_edgeTo, a_edgeInput, a_nextEdge, a_current, a_keptFirst, a_keptSecond, a_openIs, a_hasOther, a_tagLoop, a_tagRound, a_tagAround, a_waitNode, a_waitTag, a_waitValue, a_waitInput, a_readyNode, a_readyTag, a_readyA, a_readyB, a_readyInput, a_result, a_resultTime, a_stepsAt) hp hc
  intro u hp hr
  obtain ⟨f_lines, f_opened, f_nodes, f_edges, f_depth, f_tags, f_readyFrom, f_readyTo, f_ranOrder, f_isRun, f_ended, f_stepCount, f_now, a_lineKind, a_lineA, a_lineB, a_lineC, a_lineD, a_openLine, a_start, a_nodeKind, a_nodeNumber, a_firstEdge, a_edgeTo, a_edgeInput, a_nextEdge, a_current, a_keptFirst, a_keptSecond, a_openIs, a_hasOther, a_tagLoop, a_tagRound, a_tagAround, a_waitNode, a_waitTag, a_waitValue, a_waitInput, a_readyNode, a_readyTag, a_readyA, a_readyB, a_readyInput, a_result, a_resultTime, a_stepsAt⟩ := u
  have hc' : f_isRun = 0 ∨ ro_I c f_ranOrder f_ended f_stepCount a_result a_resultTime a_stepsAt := Or.inr (by rw [hr.1]; exact hr.2)
  have hY : ∀ R, (∀ f_ending f_steps f_last a_values a_times a_counts, yo_I c f_ending f_steps f_last a_values a_times a_counts → (f_ending = 0 → f_last = R) ∧ (¬ f_ending = 0 → (-1000000003) = R)) → wpY_last (fun r' v' => r' = R ∧ i_Rel (k + 5) (f_lines, f_opened, f_nodes, f_edges, f_depth, f_tags, f_readyFrom, f_readyTo, f_ranOrder, f_isRun, f_ended, f_stepCount, f_now, a_lineKind, a_lineA, a_lineB, a_lineC, a_lineD, a_openLine, a_start, a_nodeKind, a_nodeNumber, a_firstEdge, a_edgeTo, a_edgeInput, a_nextEdge, a_current, a_keptFirst, a_keptSecond, a_openIs, a_hasOther, a_tagLoop, a_tagRound, a_tagAround, a_waitNode, a_waitTag, a_waitValue, a_waitInput, a_readyNode, a_readyTag, a_readyA, a_readyB, a_readyInput, a_result, a_resultTime, a_stepsAt) v') v := by
    intro R hR
    unfold wpY_last
    obtain ⟨f_lines, f_height, f_steps, f_last, f_ending, a_inputs, a_sorts, a_variables, a_numbers, a_firsts, a_seconds, a_pile, a_closes, a_others, a_opens, a_values, a_times, a_counts⟩ := v
    refine ys_work w ?_ (f_lines, f_height, f_steps, f_last, f_ending, a_inputs, a_sorts, a_variables, a_numbers, a_firsts, a_seconds, a_pile, a_closes, a_others, a_opens, a_values, a_times, a_counts) hy
    intro v hy hyo
    obtain ⟨f_lines, f_height, f_steps, f_last, f_ending, a_inputs, a_sorts, a_variables, a_numbers, a_firsts, a_seconds, a_pile, a_closes, a_others, a_opens, a_values, a_times, a_counts⟩ := v
    obtain ⟨h1, h2⟩ := hR _ _ _ _ _ _ hyo
    exact br_c (fun z => ⟨h1 z, c, fl, w, hp, hs, hc', hy⟩) (fun z => ⟨h2 z, c, fl, w, hp, hs, hc', hy⟩)
  refine ⟨403, xs_lst (br_c (fun z => ?_) (fun z => ?_)) 402 0 rfl 403 (by omega)⟩
  · refine hY _ (fun e st la vals tms cts hyo => ?_)
    obtain ⟨h1, h2⟩ := rm_eq w hr.2 hyo
    obtain ⟨K, h4, _, h3⟩ := h2 z
    obtain ⟨_, _, h5, l, l1, l2, l3, l4⟩ := h3 rfl
    refine ⟨fun _ => ?_, fun y => absurd (h1.trans z) y⟩
    rw [l1]
    refine (ls_l (fun t ht => (h5 t ht).2) (fun t => ?_) l3 l4 l2).symm
    have : mc_ct c K t ≤ mc_cnt c K := List.length_filter_le _ _
    omega
  · refine hY _ (fun e st la vals tms cts hyo => ?_)
    obtain ⟨h1, h2⟩ := rm_eq w hr.2 hyo
    exact ⟨fun y => absurd (h1.symm.trans y) z, fun _ => rfl⟩
theorem i_vc_at {k : Nat} {u : SX} {v : SY} (I : i_Rel k u v) (hk : k + 5 ≤ 2560) (v1 : Int32) : wpX_at (fun r u' => wpY_at (fun r' v' => r' = r ∧ i_Rel (k + 5) u' v') v v1) u v1 := by
  obtain ⟨c, fl, w, hp, hs, hc, hy⟩ := I
  obtain ⟨f_lines, f_opened, f_nodes, f_edges, f_depth, f_tags, f_readyFrom, f_readyTo, f_ranOrder, f_isRun, f_ended, f_stepCount, f_now, a_lineKind, a_lineA, a_lineB, a_lineC, a_lineD, a_openLine, a_start, a_nodeKind, a_nodeNumber, a_firstEdge, a_edgeTo, a_edgeInput, a_nextEdge, a_current, a_keptFirst, a_keptSecond, a_openIs, a_hasOther, a_tagLoop, a_tagRound, a_tagAround, a_waitNode, a_waitTag, a_waitValue, a_waitInput, a_readyNode, a_readyTag, a_readyA, a_readyB, a_readyInput, a_result, a_resultTime, a_stepsAt⟩ := u
  unfold wpX_at
  refine xs_runBy (c := c) (fl := fl) w (Or.inr (Or.inr rfl)) rfl (cf_st_len w _ (Nat.le_refl _)) ?_ (f_lines, f_opened, f_nodes, f_edges, f_depth, f_tags, f_readyFrom, f_readyTo, f_ranOrder, f_isRun, f_ended, f_stepCount, f_now, a_lineKind, a_lineA, a_lineB, a_lineC, a_lineD, a_openLine, a_start, a_nodeKind, a_nodeNumber, a_firstEdge, a_edgeTo, a_edgeInput, a_nextEdge, a_current, a_keptFirst, a_keptSecond, a_openIs, a_hasOther, a_tagLoop, a_tagRound, a_tagAround, a_waitNode, a_waitTag, a_waitValue, a_waitInput, a_readyNode, a_readyTag, a_readyA, a_readyB, a_readyInput, a_result, a_resultTime, a_stepsAt) hp hc
  intro u hp hr
  obtain ⟨f_lines, f_opened, f_nodes, f_edges, f_depth, f_tags, f_readyFrom, f_readyTo, f_ranOrder, f_isRun, f_ended, f_stepCount, f_now, a_lineKind, a_lineA, a_lineB, a_lineC, a_lineD, a_openLine, a_start, a_nodeKind, a_nodeNumber, a_firstEdge, a_edgeTo, a_edgeInput, a_nextEdge, a_current, a_keptFirst, a_keptSecond, a_openIs, a_hasOther, a_tagLoop, a_tagRound, a_tagAround, a_waitNode, a_waitTag, a_waitValue, a_waitInput, a_readyNode, a_readyTag, a_readyA, a_readyB, a_readyInput, a_result, a_resultTime, a_stepsAt⟩ := u
  have hc' : f_isRun = 0 ∨ ro_I c f_ranOrder f_ended f_stepCount a_result a_resultTime a_stepsAt := Or.inr (by rw [hr.1]; exact hr.2)
  have hY : ∀ R, (∀ f_ending f_steps f_last a_values a_times a_counts, yo_I c f_ending f_steps f_last a_values a_times a_counts → (f_ending = 0 → (v1 < 0 → 0 = R) ∧ (¬ v1 < 0 → (v1 ≤ 401 → a_counts v1.toNatClampNeg = R) ∧ (¬ v1 ≤ 401 → 0 = R))) ∧ (¬ f_ending = 0 → (-1000000003) = R)) → wpY_at (fun r' v' => r' = R ∧ i_Rel (k + 5) (f_lines, f_opened, f_nodes, f_edges, f_depth, f_tags, f_readyFrom, f_readyTo, f_ranOrder, f_isRun, f_ended, f_stepCount, f_now, a_lineKind, a_lineA, a_lineB, a_lineC, a_lineD, a_openLine, a_start, a_nodeKind, a_nodeNumber, a_firstEdge, a_edgeTo, a_edgeInput, a_nextEdge, a_current, a_keptFirst, a_keptSecond, a_openIs, a_hasOther, a_tagLoop, a_tagRound, a_tagAround, a_waitNode, a_waitTag, a_waitValue, a_waitInput, a_readyNode, a_readyTag, a_readyA, a_readyB, a_readyInput, a_result, a_resultTime, a_stepsAt) v') v v1 := by
    intro R hR
    unfold wpY_at
    obtain ⟨f_lines, f_height, f_steps, f_last, f_ending, a_inputs, a_sorts, a_variables, a_numbers, a_firsts, a_seconds, a_pile, a_closes, a_others, a_opens, a_values, a_times, a_counts⟩ := v
    refine ys_work w ?_ (f_lines, f_height, f_steps, f_last, f_ending, a_inputs, a_sorts, a_variables, a_numbers, a_firsts, a_seconds, a_pile, a_closes, a_others, a_opens, a_values, a_times, a_counts) hy
    intro v hy hyo
    obtain ⟨f_lines, f_height, f_steps, f_last, f_ending, a_inputs, a_sorts, a_variables, a_numbers, a_firsts, a_seconds, a_pile, a_closes, a_others, a_opens, a_values, a_times, a_counts⟩ := v
    obtain ⟨h1, h2⟩ := hR _ _ _ _ _ _ hyo
    refine br_c (fun z => br_c (fun z1 => ⟨(h1 z).1 z1, c, fl, w, hp, hs, hc', hy⟩) (fun z1 => br_c (fun z2 => And.intro ?_ ⟨((h1 z).2 z1).1 z2, c, fl, w, hp, hs, hc', hy⟩) (fun z2 => ⟨((h1 z).2 z1).2 z2, c, fl, w, hp, hs, hc', hy⟩))) (fun z => ⟨h2 z, c, fl, w, hp, hs, hc', hy⟩)
    obtain ⟨j, hj, rfl⟩ := nI_of2 (M := 401) (n := 401) (by decide) z1 z2
    exact vp_in_nI (by omega) (by decide)
  refine br_c (fun z => br_c (fun z1 => ?_) (fun z1 => br_c (fun z2 => And.intro ?_ ?_) (fun z2 => ?_))) (fun z => ?_)
  · refine hY _ (fun e st la vals tms cts hyo => ?_)
    obtain ⟨h1, h2⟩ := rm_eq w hr.2 hyo
    exact ⟨fun _ => ⟨fun _ => rfl, fun y => absurd z1 y⟩, fun y => absurd (h1.trans z) y⟩
  · obtain ⟨j, hj, rfl⟩ := nI_of2 (M := 401) (n := 401) (by decide) z1 z2
    exact vp_in_nI (by omega) (by decide)
  · refine hY _ (fun e st la vals tms cts hyo => ?_)
    obtain ⟨h1, h2⟩ := rm_eq w hr.2 hyo
    obtain ⟨K, _, _, h3⟩ := h2 z
    refine ⟨fun _ => ⟨fun y => absurd y z1, fun _ => ⟨fun _ => ?_, fun y => absurd z2 y⟩⟩, fun y => absurd (h1.trans z) y⟩
    obtain ⟨j, hj, rfl⟩ := nI_of2 (M := 401) (n := 401) (by decide) z1 z2
    rw [nI_clamp (by omega)]
    exact ((h3 rfl).2.2.1 j (by omega)).1
  · refine hY _ (fun e st la vals tms cts hyo => ?_)
    obtain ⟨h1, h2⟩ := rm_eq w hr.2 hyo
    exact ⟨fun _ => ⟨fun y => absurd y z1, fun _ => ⟨fun y => absurd y z2, fun _ => rfl⟩⟩, fun y => absurd (h1.trans z) y⟩
  · refine hY _ (fun e st la vals tms cts hyo => ?_)
    obtain ⟨h1, h2⟩ := rm_eq w hr.2 hyo
    exact ⟨fun y => absurd (h1.symm.trans y) z, fun _ => rfl⟩
theorem i_vc_time {k : Nat} {u : SX} {v : SY} (I : i_Rel k u v) (hk : k + 5 ≤ 2560) (v1 : Int32) : wpX_time (fun r u' => wpY_time (fun r' v' => r' = r ∧ i_Rel (k + 5) u' v') v v1) u v1 := by
  obtain ⟨c, fl, w, hp, hs, hc, hy⟩ := I
  obtain ⟨f_lines, f_opened, f_nodes, f_edges, f_depth, f_tags, f_readyFrom, f_readyTo, f_ranOrder, f_isRun, f_ended, f_stepCount, f_now, a_lineKind, a_lineA, a_lineB, a_lineC, a_lineD, a_openLine, a_start, a_nodeKind, a_nodeNumber, a_firstEdge, a_edgeTo, a_edgeInput, a_nextEdge, a_current, a_keptFirst, a_keptSecond, a_openIs, a_hasOther, a_tagLoop, a_tagRound, a_tagAround, a_waitNode, a_waitTag, a_waitValue, a_waitInput, a_readyNode, a_readyTag, a_readyA, a_readyB, a_readyInput, a_result, a_resultTime, a_stepsAt⟩ := u
  unfold wpX_time
  rcases bv_cs v1 with ⟨j, hj, rfl⟩ | hb
  · refine xs_bv1 hj (br_t rfl ?_)
    refine xs_runBy (c := c) (fl := fl) w (Or.inr (Or.inr rfl)) rfl (cf_st_len w _ (Nat.le_refl _)) ?_ (f_lines, f_opened, f_nodes, f_edges, f_depth, f_tags, f_readyFrom, f_readyTo, f_ranOrder, f_isRun, f_ended, f_stepCount, f_now, a_lineKind, a_lineA, a_lineB, a_lineC, a_lineD, a_openLine, a_start, a_nodeKind, a_nodeNumber, a_firstEdge, a_edgeTo, a_edgeInput, a_nextEdge, a_current, a_keptFirst, a_keptSecond, a_openIs, a_hasOther, a_tagLoop, a_tagRound, a_tagAround, a_waitNode, a_waitTag, a_waitValue, a_waitInput, a_readyNode, a_readyTag, a_readyA, a_readyB, a_readyInput, a_result, a_resultTime, a_stepsAt) hp hc
    intro u hp hr
    obtain ⟨f_lines, f_opened, f_nodes, f_edges, f_depth, f_tags, f_readyFrom, f_readyTo, f_ranOrder, f_isRun, f_ended, f_stepCount, f_now, a_lineKind, a_lineA, a_lineB, a_lineC, a_lineD, a_openLine, a_start, a_nodeKind, a_nodeNumber, a_firstEdge, a_edgeTo, a_edgeInput, a_nextEdge, a_current, a_keptFirst, a_keptSecond, a_openIs, a_hasOther, a_tagLoop, a_tagRound, a_tagAround, a_waitNode, a_waitTag, a_waitValue, a_waitInput, a_readyNode, a_readyTag, a_readyA, a_readyB, a_readyInput, a_result, a_resultTime, a_stepsAt⟩ := u
    have hji : vp_in (nI j) 5 := vp_in_nI (by omega) (by decide)
    have hjc : (nI j).toNatClampNeg = j := nI_clamp (by omega)
    have hc' : f_isRun = 0 ∨ ro_I c f_ranOrder f_ended f_stepCount a_result a_resultTime a_stepsAt := Or.inr (by rw [hr.1]; exact hr.2)
    have hY : ∀ R, (∀ f_ending f_steps f_last a_values a_times a_counts, yo_I c f_ending f_steps f_last a_values a_times a_counts → (f_ending = 0 → a_times j = R) ∧ (¬ f_ending = 0 → (-1000000003) = R)) → wpY_time (fun r' v' => r' = R ∧ i_Rel (k + 5) (f_lines, f_opened, f_nodes, f_edges, f_depth, f_tags, f_readyFrom, f_readyTo, f_ranOrder, f_isRun, f_ended, f_stepCount, f_now, a_lineKind, a_lineA, a_lineB, a_lineC, a_lineD, a_openLine, a_start, a_nodeKind, a_nodeNumber, a_firstEdge, a_edgeTo, a_edgeInput, a_nextEdge, a_current, a_keptFirst, a_keptSecond, a_openIs, a_hasOther, a_tagLoop, a_tagRound, a_tagAround, a_waitNode, a_waitTag, a_waitValue, a_waitInput, a_readyNode, a_readyTag, a_readyA, a_readyB, a_readyInput, a_result, a_resultTime, a_stepsAt) v') v (nI j) := by
      intro R hR
      unfold wpY_time
      obtain ⟨f_lines, f_height, f_steps, f_last, f_ending, a_inputs, a_sorts, a_variables, a_numbers, a_firsts, a_seconds, a_pile, a_closes, a_others, a_opens, a_values, a_times, a_counts⟩ := v
      refine ys_iv1 hj (br_f (by decide) ?_)
      refine ys_work w ?_ (f_lines, f_height, f_steps, f_last, f_ending, a_inputs, a_sorts, a_variables, a_numbers, a_firsts, a_seconds, a_pile, a_closes, a_others, a_opens, a_values, a_times, a_counts) hy
      intro v hy hyo
      obtain ⟨f_lines, f_height, f_steps, f_last, f_ending, a_inputs, a_sorts, a_variables, a_numbers, a_firsts, a_seconds, a_pile, a_closes, a_others, a_opens, a_values, a_times, a_counts⟩ := v
      obtain ⟨h1, h2⟩ := hR _ _ _ _ _ _ hyo
      rw [hjc]
      exact br_c (fun z => And.intro hji ⟨h1 z, c, fl, w, hp, hs, hc', hy⟩) (fun z => ⟨h2 z, c, fl, w, hp, hs, hc', hy⟩)
    rw [hjc]
    refine br_c (fun z => And.intro hji ?_) (fun z => ?_)
    · refine hY _ (fun e st la vals tms cts hyo => ?_)
      obtain ⟨h1, h2⟩ := rm_eq w hr.2 hyo
      obtain ⟨K, _, _, h3⟩ := h2 z
      exact ⟨fun _ => (h3 rfl).2.1 j (by omega), fun y => absurd (h1.trans z) y⟩
    · refine hY _ (fun e st la vals tms cts hyo => ?_)
      obtain ⟨h1, h2⟩ := rm_eq w hr.2 hyo
      exact ⟨fun y => absurd (h1.symm.trans y) z, fun _ => rfl⟩
  · refine xs_bv0 hb (br_f (by decide) ?_)
    unfold wpY_time
    obtain ⟨f_lines, f_height, f_steps, f_last, f_ending, a_inputs, a_sorts, a_variables, a_numbers, a_firsts, a_seconds, a_pile, a_closes, a_others, a_opens, a_values, a_times, a_counts⟩ := v
    exact ys_iv0 hb (br_t rfl ⟨rfl, c, fl, w, hp, hs, hc, hy⟩)
theorem i_vc_value {k : Nat} {u : SX} {v : SY} (I : i_Rel k u v) (hk : k + 5 ≤ 2560) (v1 : Int32) (v2 : Int32) : wpX_value (fun r u' => wpY_value (fun r' v' => r' = r ∧ i_Rel (k + 5) u' v') v v1 v2) u v1 v2 := by
  obtain ⟨c, fl, w, hp, hs, hc, hy⟩ := I
  obtain ⟨f_lines, f_opened, f_nodes, f_edges, f_depth, f_tags, f_readyFrom, f_readyTo, f_ranOrder, f_isRun, f_ended, f_stepCount, f_now, a_lineKind, a_lineA, a_lineB, a_lineC, a_lineD, a_openLine, a_start, a_nodeKind, a_nodeNumber, a_firstEdge, a_edgeTo, a_edgeInput, a_nextEdge, a_current, a_keptFirst, a_keptSecond, a_openIs, a_hasOther, a_tagLoop, a_tagRound, a_tagAround, a_waitNode, a_waitTag, a_waitValue, a_waitInput, a_readyNode, a_readyTag, a_readyA, a_readyB, a_readyInput, a_result, a_resultTime, a_stepsAt⟩ := u
  unfold wpX_value
  rcases bv_cs v1 with ⟨j, hj, rfl⟩ | hb
  · refine xs_bv1 hj (br_t rfl ?_)
    by_cases z1 : v2 < 0
    · refine br_t z1 ?_
      unfold wpY_value
      obtain ⟨f_lines, f_height, f_steps, f_last, f_ending, a_inputs, a_sorts, a_variables, a_numbers, a_firsts, a_seconds, a_pile, a_closes, a_others, a_opens, a_values, a_times, a_counts⟩ := v
      exact ys_iv1 hj (br_f (by decide) (br_t z1 ⟨rfl, c, fl, w, hp, hs, hc, hy⟩))
    · refine br_f z1 ?_
      by_cases z2 : v2 ≤ 2
      · refine br_t z2 ?_
        have ho : v2 = 0 ∨ v2 = 1 ∨ v2 = 2 := by
          obtain ⟨m, hm, rfl⟩ := nI_of2 (M := 2) (n := 2) (by decide) z1 z2
          rcases (by omega : m = 0 ∨ m = 1 ∨ m = 2) with rfl | rfl | rfl
          · exact Or.inl rfl
          · exact Or.inr (Or.inl rfl)
          · exact Or.inr (Or.inr rfl)
        refine xs_runBy (c := c) (fl := fl) w ho rfl (cf_st_len w _ (Nat.le_refl _)) ?_ (f_lines, f_opened, f_nodes, f_edges, f_depth, f_tags, f_readyFrom, f_readyTo, f_ranOrder, f_isRun, f_ended, f_stepCount, f_now, a_lineKind, a_lineA, a_lineB, a_lineC, a_lineD, a_openLine, a_start, a_nodeKind, a_nodeNumber, a_firstEdge, a_edgeTo, a_edgeInput, a_nextEdge, a_current, a_keptFirst, a_keptSecond, a_openIs, a_hasOther, a_tagLoop, a_tagRound, a_tagAround, a_waitNode, a_waitTag, a_waitValue, a_waitInput, a_readyNode, a_readyTag, a_readyA, a_readyB, a_readyInput, a_result, a_resultTime, a_stepsAt) hp hc
        intro u hp hr
        obtain ⟨f_lines, f_opened, f_nodes, f_edges, f_depth, f_tags, f_readyFrom, f_readyTo, f_ranOrder, f_isRun, f_ended, f_stepCount, f_now, a_lineKind, a_lineA, a_lineB, a_lineC, a_lineD, a_openLine, a_start, a_nodeKind, a_nodeNumber, a_firstEdge, a_edgeTo, a_edgeInput, a_nextEdge, a_current, a_keptFirst, a_keptSecond, a_openIs, a_hasOther, a_tagLoop, a_tagRound, a_tagAround, a_waitNode, a_waitTag, a_waitValue, a_waitInput, a_readyNode, a_readyTag, a_readyA, a_readyB, a_readyInput, a_result, a_resultTime, a_stepsAt⟩ := u
        have hji : vp_in (nI j) 5 := vp_in_nI (by omega) (by decide)
        have hjc : (nI j).toNatClampNeg = j := nI_clamp (by omega)
        have hc' : f_isRun = 0 ∨ ro_I c f_ranOrder f_ended f_stepCount a_result a_resultTime a_stepsAt := Or.inr (by rw [hr.1]; exact hr.2)
        have hY : ∀ R, (∀ f_ending f_steps f_last a_values a_times a_counts, yo_I c f_ending f_steps f_last a_values a_times a_counts → (f_ending = 0 → a_values j = R) ∧ (¬ f_ending = 0 → (-1000000003) = R)) → wpY_value (fun r' v' => r' = R ∧ i_Rel (k + 5) (f_lines, f_opened, f_nodes, f_edges, f_depth, f_tags, f_readyFrom, f_readyTo, f_ranOrder, f_isRun, f_ended, f_stepCount, f_now, a_lineKind, a_lineA, a_lineB, a_lineC, a_lineD, a_openLine, a_start, a_nodeKind, a_nodeNumber, a_firstEdge, a_edgeTo, a_edgeInput, a_nextEdge, a_current, a_keptFirst, a_keptSecond, a_openIs, a_hasOther, a_tagLoop, a_tagRound, a_tagAround, a_waitNode, a_waitTag, a_waitValue, a_waitInput, a_readyNode, a_readyTag, a_readyA, a_readyB, a_readyInput, a_result, a_resultTime, a_stepsAt) v') v (nI j) v2 := by
          intro R hR
          unfold wpY_value
          obtain ⟨f_lines, f_height, f_steps, f_last, f_ending, a_inputs, a_sorts, a_variables, a_numbers, a_firsts, a_seconds, a_pile, a_closes, a_others, a_opens, a_values, a_times, a_counts⟩ := v
          refine ys_iv1 hj (br_f (by decide) (br_f z1 (br_t z2 ?_)))
          refine ys_work w ?_ (f_lines, f_height, f_steps, f_last, f_ending, a_inputs, a_sorts, a_variables, a_numbers, a_firsts, a_seconds, a_pile, a_closes, a_others, a_opens, a_values, a_times, a_counts) hy
          intro v hy hyo
          obtain ⟨f_lines, f_height, f_steps, f_last, f_ending, a_inputs, a_sorts, a_variables, a_numbers, a_firsts, a_seconds, a_pile, a_closes, a_others, a_opens, a_values, a_times, a_counts⟩ := v
          obtain ⟨h1, h2⟩ := hR _ _ _ _ _ _ hyo
          rw [hjc]
          exact br_c (fun z => And.intro hji ⟨h1 z, c, fl, w, hp, hs, hc', hy⟩) (fun z => ⟨h2 z, c, fl, w, hp, hs, hc', hy⟩)
        rw [hjc]
        refine br_c (fun z => And.intro hji ?_) (fun z => ?_)
        · refine hY _ (fun e st la vals tms cts hyo => ?_)
          obtain ⟨h1, h2⟩ := rm_eq w hr.2 hyo
          obtain ⟨K, _, h3, _⟩ := h2 z
          exact ⟨fun _ => h3 j (by omega), fun y => absurd (h1.trans z) y⟩
        · refine hY _ (fun e st la vals tms cts hyo => ?_)
          obtain ⟨h1, h2⟩ := rm_eq w hr.2 hyo
          exact ⟨fun y => absurd (h1.symm.trans y) z, fun _ => rfl⟩
      · refine br_f z2 ?_
        unfold wpY_value
        obtain ⟨f_lines, f_height, f_steps, f_last, f_ending, a_inputs, a_sorts, a_variables, a_numbers, a_firsts, a_seconds, a_pile, a_closes, a_others, a_opens, a_values, a_times, a_counts⟩ := v
        exact ys_iv1 hj (br_f (by decide) (br_f z1 (br_f z2 ⟨rfl, c, fl, w, hp, hs, hc, hy⟩)))
  · refine xs_bv0 hb (br_f (by decide) ?_)
    unfold wpY_value
    obtain ⟨f_lines, f_height, f_steps, f_last, f_ending, a_inputs, a_sorts, a_variables, a_numbers, a_firsts, a_seconds, a_pile, a_closes, a_others, a_opens, a_values, a_times, a_counts⟩ := v
    exact ys_iv0 hb (br_t rfl ⟨rfl, c, fl, w, hp, hs, hc, hy⟩)
end
end
section
/-- the same lines, fewer, other start values -/
def cf_wn (c : CF) (n : Nat) (s : Nat → Int32) : CF := (n, c.2.1, c.2.2.1, c.2.2.2.1, c.2.2.2.2.1, c.2.2.2.2.2.1, s)
theorem wn_ag {c : CF} (n : Nat) (s : Nat → Int32) (N : Nat) : cf_ag c (cf_wn c n s) N := fun _ _ => ⟨rfl, rfl, rfl, rfl, rfl⟩
theorem wn_st {c : CF} (n : Nat) (s : Nat → Int32) (i : Nat) : cf_st (cf_wn c n s) i = cf_st c i := ag_st (wn_ag n s i) i (Nat.le_refl _)
theorem wn_wf {c : CF} {n : Nat} {s : Nat → Int32} (w : cf_wf c) (h : n ≤ cf_n c) : cf_wf (cf_wn c n s) := by
  have h20 := w.1
  refine ⟨Nat.le_trans h h20, fun i hi => ?_⟩
  have hi : i < n := hi
  exact ag_lok (wn_ag n s (i + 1)) (by omega) (w.2 i (by omega))
section
variable {c : CF} {fl fl' : Nat → Int32} {g_lines f_height f_steps f_last f_ending p0 p1 p2 p3 p4 : Int32} {a_inputs a_sorts a_variables a_numbers a_firsts a_seconds a_pile a_closes a_others a_opens a_values a_times a_counts : Nat → Int32}
variable {f_lines f_opened f_nodes f_edges f_depth f_tags f_readyFrom f_readyTo f_ranOrder f_isRun f_ended f_stepCount f_now : Int32} {a_lineKind a_lineA a_lineB a_lineC a_lineD a_openLine a_start a_nodeKind a_nodeNumber a_firstEdge a_edgeTo a_edgeInput a_nextEdge a_current a_keptFirst a_keptSecond a_openIs a_hasOther a_tagLoop a_tagRound a_tagAround a_waitNode a_waitTag a_waitValue a_waitInput a_readyNode a_readyTag a_readyA a_readyB a_readyInput a_result a_resultTime a_stepsAt : Nat → Int32}
theorem rel_add {k : Nat} {S : List Nat} (fo : Int32) (w : cf_wf (cf_ad c p0 p1 p2 p3 p4)) (hp : f_lines = nI (cf_n c) ∧ f_opened = fo ∧ a_lineKind = c.2.1 ∧ a_lineA = c.2.2.1 ∧ a_lineB = c.2.2.2.1 ∧ a_lineC = c.2.2.2.2.1 ∧ a_lineD = c.2.2.2.2.2.1 ∧ a_openLine = fl ∧ a_start = c.2.2.2.2.2.2)
    (hy : py_I c (g_lines, f_height, f_steps, f_last, f_ending, a_inputs, a_sorts, a_variables, a_numbers, a_firsts, a_seconds, a_pile, a_closes, a_others, a_opens, a_values, a_times, a_counts)) (hs : cf_st (cf_ad c p0 p1 p2 p3 p4) (cf_n c + 1) = S) (hk : sk_a fl' S) :
    i_Rel (k + 5) (nI (cf_n c + 1), nI S.length, f_nodes, f_edges, f_depth, f_tags, f_readyFrom, f_readyTo, f_ranOrder, 0, f_ended, f_stepCount, f_now, upd a_lineKind (cf_n c) p0, upd a_lineA (cf_n c) p1, upd a_lineB (cf_n c) p2, upd a_lineC (cf_n c) p3, upd a_lineD (cf_n c) p4, fl', a_start, a_nodeKind, a_nodeNumber, a_firstEdge, a_edgeTo, a_edgeInput, a_nextEdge, a_current, a_keptFirst, a_keptSecond, a_openIs, a_hasOther, a_tagLoop, a_tagRound, a_tagAround, a_waitNode, a_waitTag, a_waitValue, a_waitInput, a_readyNode, a_readyTag, a_readyA, a_readyB, a_readyInput, a_result, a_resultTime, a_stepsAt)
      (nI (cf_n c + 1), f_height, f_steps, f_last, f_ending, a_inputs, upd a_sorts (cf_n c) p0, upd a_variables (cf_n c) p1, upd a_numbers (cf_n c) p2, upd a_firsts (cf_n c) p3, upd a_seconds (cf_n c) p4, a_pile, a_closes, a_others, a_opens, a_values, a_times, a_counts) := by
  obtain ⟨q1, q2, q3, q4, q5, q6, q7, q8, q9⟩ := hp
  obtain ⟨y1, y2, y3, y4, y5, y6, y7⟩ := py_el hy
  subst q3 q4 q5 q6 q7 q9
  refine ⟨cf_ad c p0 p1 p2 p3 p4, fl', w, px_mk ⟨rfl, ?_, rfl, rfl, rfl, rfl, rfl, rfl, rfl⟩, ?_, Or.inl rfl, ?_⟩
  · show nI S.length = nI (cf_st (cf_ad c p0 p1 p2 p3 p4) (cf_n c + 1)).length
    rw [hs]
  · show sk_a fl' (cf_st (cf_ad c p0 p1 p2 p3 p4) (cf_n c + 1))
    rw [hs]; exact hk
  · refine py_mk ⟨rfl, y2, ?_, ?_, ?_, ?_, ?_⟩
    · rw [y3]; rfl
    · rw [y4]; rfl
    · rw [y5]; rfl
    · rw [y6]; rfl
    · rw [y7]; rfl
end
section
variable {f_lines f_opened f_nodes f_edges f_depth f_tags f_readyFrom f_readyTo f_ranOrder f_isRun f_ended f_stepCount f_now : Int32} {a_lineKind a_lineA a_lineB a_lineC a_lineD a_openLine a_start a_nodeKind a_nodeNumber a_firstEdge a_edgeTo a_edgeInput a_nextEdge a_current a_keptFirst a_keptSecond a_openIs a_hasOther a_tagLoop a_tagRound a_tagAround a_waitNode a_waitTag a_waitValue a_waitInput a_readyNode a_readyTag a_readyA a_readyB a_readyInput a_result a_resultTime a_stepsAt : Nat → Int32}
theorem i_vc_input {k : Nat} {u : SX} {v : SY} (I : i_Rel k u v) (hk : k + 5 ≤ 2560) (v1 : Int32) (v2 : Int32) : wpX_input (fun r u' => wpY_input (fun r' v' => r' = r ∧ i_Rel (k + 5) u' v') v v1 v2) u v1 v2 := by
  obtain ⟨c, fl, w, hp, hs, hc, hy⟩ := I
  obtain ⟨f_lines, f_opened, f_nodes, f_edges, f_depth, f_tags, f_readyFrom, f_readyTo, f_ranOrder, f_isRun, f_ended, f_stepCount, f_now, a_lineKind, a_lineA, a_lineB, a_lineC, a_lineD, a_openLine, a_start, a_nodeKind, a_nodeNumber, a_firstEdge, a_edgeTo, a_edgeInput, a_nextEdge, a_current, a_keptFirst, a_keptSecond, a_openIs, a_hasOther, a_tagLoop, a_tagRound, a_tagAround, a_waitNode, a_waitTag, a_waitValue, a_waitInput, a_readyNode, a_readyTag, a_readyA, a_readyB, a_readyInput, a_result, a_resultTime, a_stepsAt⟩ := u
  unfold wpX_input
  rcases bv_cs v1 with ⟨j, hj, rfl⟩ | hb
  · have hji : vp_in (nI j) 4 := vp_in_nI hj (by decide)
    have hjc : (nI j).toNatClampNeg = j := nI_clamp (by omega)
    refine xs_bv1 hj (br_t rfl (And.intro hji (nm_r (e' := a_start j) (by rw [hjc]) (And.intro hji (nm_r (e' := upd a_start j v2) (by rw [hjc]) ?_)))))
    unfold wpY_input
    obtain ⟨q1, q2, q3, q4, q5, q6, q7, q8, q9⟩ := px_el hp
    obtain ⟨f_lines, f_height, f_steps, f_last, f_ending, a_inputs, a_sorts, a_variables, a_numbers, a_firsts, a_seconds, a_pile, a_closes, a_others, a_opens, a_values, a_times, a_counts⟩ := v
    obtain ⟨y1, y2, y3, y4, y5, y6, y7⟩ := py_el hy
    refine ys_iv1 hj (br_f (by decide) (And.intro hji (nm_r (e' := a_inputs j) (by rw [hjc]) (And.intro hji (nm_r (e' := upd a_inputs j v2) (by rw [hjc]) ?_)))))
    refine ⟨by rw [y2, q9], cf_wn c (cf_n c) (upd c.2.2.2.2.2.2 j v2), fl, wn_wf w (Nat.le_refl _), px_mk ⟨q1, ?_, q3, q4, q5, q6, q7, q8, by rw [q9]; rfl⟩, ?_, Or.inl rfl, py_mk ⟨y1, by rw [y2]; rfl, y3, y4, y5, y6, y7⟩⟩
    · show _ = nI (cf_st (cf_wn c (cf_n c) (upd c.2.2.2.2.2.2 j v2)) (cf_n c)).length
      rw [wn_st]; exact q2
    · show sk_a fl (cf_st (cf_wn c (cf_n c) (upd c.2.2.2.2.2.2 j v2)) (cf_n c))
      rw [wn_st]; exact hs
  · refine xs_bv0 hb (br_f (by decide) ?_)
    unfold wpY_input
    obtain ⟨f_lines, f_height, f_steps, f_last, f_ending, a_inputs, a_sorts, a_variables, a_numbers, a_firsts, a_seconds, a_pile, a_closes, a_others, a_opens, a_values, a_times, a_counts⟩ := v
    exact ys_iv0 hb (br_t rfl ⟨rfl, c, fl, w, hp, hs, hc, hy⟩)
theorem i_vc_constant {k : Nat} {u : SX} {v : SY} (I : i_Rel k u v) (hk : k + 5 ≤ 2560) (v1 : Int32) (v2 : Int32) : wpX_constant (fun r u' => wpY_constant (fun r' v' => r' = r ∧ i_Rel (k + 5) u' v') v v1 v2) u v1 v2 := by
  obtain ⟨c, fl, w, hp, hs, hc, hy⟩ := I
  obtain ⟨f_lines, f_opened, f_nodes, f_edges, f_depth, f_tags, f_readyFrom, f_readyTo, f_ranOrder, f_isRun, f_ended, f_stepCount, f_now, a_lineKind, a_lineA, a_lineB, a_lineC, a_lineD, a_openLine, a_start, a_nodeKind, a_nodeNumber, a_firstEdge, a_edgeTo, a_edgeInput, a_nextEdge, a_current, a_keptFirst, a_keptSecond, a_openIs, a_hasOther, a_tagLoop, a_tagRound, a_tagAround, a_waitNode, a_waitTag, a_waitValue, a_waitInput, a_readyNode, a_readyTag, a_readyA, a_readyB, a_readyInput, a_result, a_resultTime, a_stepsAt⟩ := u
  unfold wpX_constant
  have h20 := w.1
  have hp1 := px_el hp
  rcases bv_cs v1 with ⟨j, hj, rfl⟩ | hb
  · refine xs_bv1 hj (br_t rfl ?_)
    by_cases hn : cf_n c = 20
    · refine br_t (by rw [hp1.1, hn]; rfl) ?_
      unfold wpY_constant
      obtain ⟨f_lines, f_height, f_steps, f_last, f_ending, a_inputs, a_sorts, a_variables, a_numbers, a_firsts, a_seconds, a_pile, a_closes, a_others, a_opens, a_values, a_times, a_counts⟩ := v
      have hy1 := py_el hy
      exact ys_iv1 hj (br_f (by decide) (ys_app_f (by rw [hy1.1, hn]) ⟨rfl, c, fl, w, hp, hs, hc, hy⟩))
    · refine br_f (by rw [hp1.1]; exact fun z => hn ((nI_eq (b := 20) (by omega) (by decide)).mp z)) ?_
      refine xs_add hp1.1 (by omega) ?_
      unfold wpY_constant
      obtain ⟨f_lines, f_height, f_steps, f_last, f_ending, a_inputs, a_sorts, a_variables, a_numbers, a_firsts, a_seconds, a_pile, a_closes, a_others, a_opens, a_values, a_times, a_counts⟩ := v
      have hy1 := py_el hy
      refine ys_iv1 hj (br_f (by decide) (ys_app hy1.1 (by omega) ⟨rfl, ?_⟩))
      obtain ⟨w', hst⟩ := ad_0 (p2 := v2) (p3 := 0) (p4 := 0) hj w (by omega)
      rw [hp1.2.1, hp1.2.2.2.2.2.2.2.1]
      exact rel_add _ w' hp1 hy hst hs
  · refine xs_bv0 hb (br_f (by decide) ?_)
    unfold wpY_constant
    obtain ⟨f_lines, f_height, f_steps, f_last, f_ending, a_inputs, a_sorts, a_variables, a_numbers, a_firsts, a_seconds, a_pile, a_closes, a_others, a_opens, a_values, a_times, a_counts⟩ := v
    exact ys_iv0 hb (br_t rfl ⟨rfl, c, fl, w, hp, hs, hc, hy⟩)
theorem i_vc_operation {k : Nat} {u : SX} {v : SY} (I : i_Rel k u v) (hk : k + 5 ≤ 2560) (v1 : Int32) (v2 : Int32) (v3 : Int32) (v4 : Int32) : wpX_operation (fun r u' => wpY_operation (fun r' v' => r' = r ∧ i_Rel (k + 5) u' v') v v1 v2 v3 v4) u v1 v2 v3 v4 := by
  obtain ⟨c, fl, w, hp, hs, hc, hy⟩ := I
  obtain ⟨f_lines, f_opened, f_nodes, f_edges, f_depth, f_tags, f_readyFrom, f_readyTo, f_ranOrder, f_isRun, f_ended, f_stepCount, f_now, a_lineKind, a_lineA, a_lineB, a_lineC, a_lineD, a_openLine, a_start, a_nodeKind, a_nodeNumber, a_firstEdge, a_edgeTo, a_edgeInput, a_nextEdge, a_current, a_keptFirst, a_keptSecond, a_openIs, a_hasOther, a_tagLoop, a_tagRound, a_tagAround, a_waitNode, a_waitTag, a_waitValue, a_waitInput, a_readyNode, a_readyTag, a_readyA, a_readyB, a_readyInput, a_result, a_resultTime, a_stepsAt⟩ := u
  unfold wpX_operation
  have h20 := w.1
  have hp1 := px_el hp
  rcases bv_cs v1 with ⟨j, hj, rfl⟩ | hb
  · refine xs_bv1 hj (br_t rfl ?_)
    rcases bv_cs v3 with ⟨a, ha, rfl⟩ | hb
    · refine xs_bv1 ha (br_t rfl ?_)
      rcases bv_cs v4 with ⟨b, hb, rfl⟩ | hb
      · refine xs_bv1 hb (br_t rfl ?_)
        by_cases z1 : v2 < 0
        · refine br_t z1 ?_
          unfold wpY_operation
          obtain ⟨f_lines, f_height, f_steps, f_last, f_ending, a_inputs, a_sorts, a_variables, a_numbers, a_firsts, a_seconds, a_pile, a_closes, a_others, a_opens, a_values, a_times, a_counts⟩ := v
          exact ys_iv1 hj (br_f (by decide) (ys_iv1 ha (br_f (by decide) (ys_iv1 hb (br_f (by decide) (br_t z1 (br_t rfl ⟨rfl, c, fl, w, hp, hs, hc, hy⟩)))))))
        · refine br_f z1 ?_
          by_cases z2 : v2 ≤ 4
          · refine br_t z2 ?_
            have z3 : ¬ (4 : Int32) < v2 := Int32.not_lt.mpr z2
            by_cases hn : cf_n c = 20
            · refine br_t (by rw [hp1.1, hn]; rfl) ?_
              unfold wpY_operation
              obtain ⟨f_lines, f_height, f_steps, f_last, f_ending, a_inputs, a_sorts, a_variables, a_numbers, a_firsts, a_seconds, a_pile, a_closes, a_others, a_opens, a_values, a_times, a_counts⟩ := v
              have hy1 := py_el hy
              exact ys_iv1 hj (br_f (by decide) (ys_iv1 ha (br_f (by decide) (ys_iv1 hb (br_f (by decide) (br_f z1 (br_f z3 (br_f (by decide) (ys_app_f (by rw [hy1.1, hn]) ⟨rfl, c, fl, w, hp, hs, hc, hy⟩)))))))))
            · refine br_f (by rw [hp1.1]; exact fun z => hn ((nI_eq (b := 20) (by omega) (by decide)).mp z)) ?_
              refine xs_add hp1.1 (by omega) ?_
              unfold wpY_operation
              obtain ⟨f_lines, f_height, f_steps, f_last, f_ending, a_inputs, a_sorts, a_variables, a_numbers, a_firsts, a_seconds, a_pile, a_closes, a_others, a_opens, a_values, a_times, a_counts⟩ := v
              have hy1 := py_el hy
              refine ys_iv1 hj (br_f (by decide) (ys_iv1 ha (br_f (by decide) (ys_iv1 hb (br_f (by decide) (br_f z1 (br_f z3 (br_f (by decide) (ys_app hy1.1 (by omega) ⟨rfl, ?_⟩)))))))))
              obtain ⟨w', hst⟩ := ad_1 (p2 := v2) hj ha hb (Int32.not_lt.mp z1) z2 w (by omega)
              rw [hp1.2.1, hp1.2.2.2.2.2.2.2.1]
              exact rel_add _ w' hp1 hy hst hs
          · refine br_f z2 ?_
            unfold wpY_operation
            obtain ⟨f_lines, f_height, f_steps, f_last, f_ending, a_inputs, a_sorts, a_variables, a_numbers, a_firsts, a_seconds, a_pile, a_closes, a_others, a_opens, a_values, a_times, a_counts⟩ := v
            exact ys_iv1 hj (br_f (by decide) (ys_iv1 ha (br_f (by decide) (ys_iv1 hb (br_f (by decide) (br_f z1 (br_t (Int32.not_le.mp z2) (br_t rfl ⟨rfl, c, fl, w, hp, hs, hc, hy⟩))))))))
      · refine xs_bv0 hb (br_f (by decide) ?_)
        unfold wpY_operation
        obtain ⟨f_lines, f_height, f_steps, f_last, f_ending, a_inputs, a_sorts, a_variables, a_numbers, a_firsts, a_seconds, a_pile, a_closes, a_others, a_opens, a_values, a_times, a_counts⟩ := v
        exact ys_iv1 hj (br_f (by decide) (ys_iv1 ha (br_f (by decide) (ys_iv0 hb (br_t rfl (br_t rfl ⟨rfl, c, fl, w, hp, hs, hc, hy⟩))))))
    · refine xs_bv0 hb (br_f (by decide) ?_)
      unfold wpY_operation
      obtain ⟨f_lines, f_height, f_steps, f_last, f_ending, a_inputs, a_sorts, a_variables, a_numbers, a_firsts, a_seconds, a_pile, a_closes, a_others, a_opens, a_values, a_times, a_counts⟩ := v
      exact ys_iv1 hj (br_f (by decide) (ys_iv0 hb (br_t rfl (br_t rfl ⟨rfl, c, fl, w, hp, hs, hc, hy⟩))))
  · refine xs_bv0 hb (br_f (by decide) ?_)
    unfold wpY_operation
    obtain ⟨f_lines, f_height, f_steps, f_last, f_ending, a_inputs, a_sorts, a_variables, a_numbers, a_firsts, a_seconds, a_pile, a_closes, a_others, a_opens, a_values, a_times, a_counts⟩ := v
    exact ys_iv0 hb (br_t rfl (br_t rfl ⟨rfl, c, fl, w, hp, hs, hc, hy⟩))
theorem i_open1 {k q : Nat} {u : SX} {v : SY} (I : i_Rel k u v) (hq : q = 2 ∨ q = 4) (v1 : Int32) {post : Int32 → SX → Prop}
    (H : ∀ r u', (∀ post2 : Int32 → SY → Prop, (∀ v', i_Rel (k + 5) u' v' → post2 r v') → wpY_open post2 v (nI q) v1) → post r u') : wpX_openOne post u (nI q) v1 := by
  obtain ⟨c, fl, w, hp, hs, hc, hy⟩ := I
  obtain ⟨f_lines, f_opened, f_nodes, f_edges, f_depth, f_tags, f_readyFrom, f_readyTo, f_ranOrder, f_isRun, f_ended, f_stepCount, f_now, a_lineKind, a_lineA, a_lineB, a_lineC, a_lineD, a_openLine, a_start, a_nodeKind, a_nodeNumber, a_firstEdge, a_edgeTo, a_edgeInput, a_nextEdge, a_current, a_keptFirst, a_keptSecond, a_openIs, a_hasOther, a_tagLoop, a_tagRound, a_tagAround, a_waitNode, a_waitTag, a_waitValue, a_waitInput, a_readyNode, a_readyTag, a_readyA, a_readyB, a_readyInput, a_result, a_resultTime, a_stepsAt⟩ := u
  have h20 := w.1
  have hp1 := px_el hp
  have hlen := cf_st_len w _ (Nat.le_refl _)
  unfold wpX_openOne
  rcases bv_cs v1 with ⟨j, hj, rfl⟩ | hb
  · refine xs_bv1 hj (br_t rfl ?_)
    have hYp : ∀ {post2 : Int32 → SY → Prop}, (∀ v', py_I c v' → pr_I c (cf_n c) v' → (match v' with | (f_lines, f_height, f_steps, f_last, f_ending, a_inputs, a_sorts, a_variables, a_numbers, a_firsts, a_seconds, a_pile, a_closes, a_others, a_opens, a_values, a_times, a_counts) => ((f_height = 4 → post2 (-1000000002) (f_lines, f_height, f_steps, f_last, f_ending, a_inputs, a_sorts, a_variables, a_numbers, a_firsts, a_seconds, a_pile, a_closes, a_others, a_opens, a_values, a_times, a_counts)) ∧ (¬ f_height = 4 → wpY_append (fun r u => match u with | (f_lines, f_height, f_steps, f_last, f_ending, a_inputs, a_sorts, a_variables, a_numbers, a_firsts, a_seconds, a_pile, a_closes, a_others, a_opens, a_values, a_times, a_counts) => post2 r (f_lines, f_height, f_steps, f_last, f_ending, a_inputs, a_sorts, a_variables, a_numbers, a_firsts, a_seconds, a_pile, a_closes, a_others, a_opens, a_values, a_times, a_counts)) (f_lines, f_height, f_steps, f_last, f_ending, a_inputs, a_sorts, a_variables, a_numbers, a_firsts, a_seconds, a_pile, a_closes, a_others, a_opens, a_values, a_times, a_counts) (nI q) (nI j) 0 0 0)))) → wpY_open post2 v (nI q) (nI j) := by
      intro post2 hv
      unfold wpY_open
      obtain ⟨f_lines, f_height, f_steps, f_last, f_ending, a_inputs, a_sorts, a_variables, a_numbers, a_firsts, a_seconds, a_pile, a_closes, a_others, a_opens, a_values, a_times, a_counts⟩ := v
      refine ys_iv1 hj (br_f (by decide) ?_)
      refine ys_pair w ?_ (f_lines, f_height, f_steps, f_last, f_ending, a_inputs, a_sorts, a_variables, a_numbers, a_firsts, a_seconds, a_pile, a_closes, a_others, a_opens, a_values, a_times, a_counts) hy
      intro v' h1 h2
      have := hv v' h1 h2
      obtain ⟨f_lines, f_height, f_steps, f_last, f_ending, a_inputs, a_sorts, a_variables, a_numbers, a_firsts, a_seconds, a_pile, a_closes, a_others, a_opens, a_values, a_times, a_counts⟩ := v'
      exact this
    by_cases hn : cf_n c = 20
    · refine br_t (by rw [hp1.1, hn]; rfl) (H _ _ ?_)
      intro post2 h2
      refine hYp ?_
      intro v' hy' hq'
      obtain ⟨f_lines, f_height, f_steps, f_last, f_ending, a_inputs, a_sorts, a_variables, a_numbers, a_firsts, a_seconds, a_pile, a_closes, a_others, a_opens, a_values, a_times, a_counts⟩ := v'
      exact br_c (fun _ => h2 _ ⟨c, fl, w, hp, hs, hc, hy'⟩) (fun _ => ys_app_f (by rw [(py_el hy').1, hn]) (h2 _ ⟨c, fl, w, hp, hs, hc, hy'⟩))
    · refine br_f (by rw [hp1.1]; exact fun z => hn ((nI_eq (b := 20) (by omega) (by decide)).mp z)) ?_
      by_cases h4 : (cf_st c (cf_n c)).length = 4
      · refine br_t (by rw [hp1.2.1, h4]; rfl) (H _ _ ?_)
        intro post2 h2
        refine hYp ?_
        intro v' hy' hq'
        obtain ⟨f_lines, f_height, f_steps, f_last, f_ending, a_inputs, a_sorts, a_variables, a_numbers, a_firsts, a_seconds, a_pile, a_closes, a_others, a_opens, a_values, a_times, a_counts⟩ := v'
        exact br_t (by rw [(pr_el hq').1, h4]; rfl) (h2 _ ⟨c, fl, w, hp, hs, hc, hy'⟩)
      · have h4n : ¬ nI (cf_st c (cf_n c)).length = 4 := fun z => h4 ((nI_eq (b := 4) (by omega) (by decide)).mp z)
        refine br_f (by rw [hp1.2.1]; exact h4n) (And.intro (by rw [hp1.2.1]; exact vp_in_nI (by omega) (by decide)) (nm_r (e' := upd fl (cf_st c (cf_n c)).length (nI (cf_n c))) (by rw [hp1.2.1, nI_clamp (by omega), hp1.1, hp1.2.2.2.2.2.2.2.1]) (nm_r (e' := nI ((cf_st c (cf_n c)).length + 1)) (by rw [hp1.2.1]; exact nI_1 _) ?_)))
        refine xs_add hp1.1 (by omega) (H _ _ ?_)
        intro post2 h2
        refine hYp ?_
        intro v' hy' hq'
        obtain ⟨f_lines, f_height, f_steps, f_last, f_ending, a_inputs, a_sorts, a_variables, a_numbers, a_firsts, a_seconds, a_pile, a_closes, a_others, a_opens, a_values, a_times, a_counts⟩ := v'
        refine br_f (by rw [(pr_el hq').1]; exact h4n) (ys_app (py_el hy').1 (by omega) (h2 _ ?_))
        obtain ⟨w', hst⟩ := ad_24 (p2 := 0) (p3 := 0) (p4 := 0) hq hj (by omega) w (by omega)
        exact rel_add (k := k) _ w' hp1 hy' hst ⟨pk_us, sk_u _ (Nat.le_refl _) hs⟩
  · refine xs_bv0 hb (br_f (by decide) (H _ _ ?_))
    intro post2 h2
    unfold wpY_open
    obtain ⟨f_lines, f_height, f_steps, f_last, f_ending, a_inputs, a_sorts, a_variables, a_numbers, a_firsts, a_seconds, a_pile, a_closes, a_others, a_opens, a_values, a_times, a_counts⟩ := v
    exact ys_iv0 hb (br_t rfl (h2 _ ⟨c, fl, w, hp, hs, hc, hy⟩))
theorem i_vc_when {k : Nat} {u : SX} {v : SY} (I : i_Rel k u v) (hk : k + 5 ≤ 2560) (v1 : Int32) : wpX_when (fun r u' => wpY_when (fun r' v' => r' = r ∧ i_Rel (k + 5) u' v') v v1) u v1 := by
  obtain ⟨f_lines, f_opened, f_nodes, f_edges, f_depth, f_tags, f_readyFrom, f_readyTo, f_ranOrder, f_isRun, f_ended, f_stepCount, f_now, a_lineKind, a_lineA, a_lineB, a_lineC, a_lineD, a_openLine, a_start, a_nodeKind, a_nodeNumber, a_firstEdge, a_edgeTo, a_edgeInput, a_nextEdge, a_current, a_keptFirst, a_keptSecond, a_openIs, a_hasOther, a_tagLoop, a_tagRound, a_tagAround, a_waitNode, a_waitTag, a_waitValue, a_waitInput, a_readyNode, a_readyTag, a_readyA, a_readyB, a_readyInput, a_result, a_resultTime, a_stepsAt⟩ := u
  unfold wpX_when
  refine i_open1 (q := 2) I (Or.inl rfl) v1 ?_
  intro r u' hY
  obtain ⟨f_lines, f_opened, f_nodes, f_edges, f_depth, f_tags, f_readyFrom, f_readyTo, f_ranOrder, f_isRun, f_ended, f_stepCount, f_now, a_lineKind, a_lineA, a_lineB, a_lineC, a_lineD, a_openLine, a_start, a_nodeKind, a_nodeNumber, a_firstEdge, a_edgeTo, a_edgeInput, a_nextEdge, a_current, a_keptFirst, a_keptSecond, a_openIs, a_hasOther, a_tagLoop, a_tagRound, a_tagAround, a_waitNode, a_waitTag, a_waitValue, a_waitInput, a_readyNode, a_readyTag, a_readyA, a_readyB, a_readyInput, a_result, a_resultTime, a_stepsAt⟩ := u'
  unfold wpY_when
  obtain ⟨f_lines, f_height, f_steps, f_last, f_ending, a_inputs, a_sorts, a_variables, a_numbers, a_firsts, a_seconds, a_pile, a_closes, a_others, a_opens, a_values, a_times, a_counts⟩ := v
  refine hY _ ?_
  intro v' hv'
  obtain ⟨f_lines, f_height, f_steps, f_last, f_ending, a_inputs, a_sorts, a_variables, a_numbers, a_firsts, a_seconds, a_pile, a_closes, a_others, a_opens, a_values, a_times, a_counts⟩ := v'
  exact ⟨rfl, hv'⟩
theorem i_vc_repeat {k : Nat} {u : SX} {v : SY} (I : i_Rel k u v) (hk : k + 5 ≤ 2560) (v1 : Int32) : wpX_repeat (fun r u' => wpY_repeat (fun r' v' => r' = r ∧ i_Rel (k + 5) u' v') v v1) u v1 := by
  obtain ⟨f_lines, f_opened, f_nodes, f_edges, f_depth, f_tags, f_readyFrom, f_readyTo, f_ranOrder, f_isRun, f_ended, f_stepCount, f_now, a_lineKind, a_lineA, a_lineB, a_lineC, a_lineD, a_openLine, a_start, a_nodeKind, a_nodeNumber, a_firstEdge, a_edgeTo, a_edgeInput, a_nextEdge, a_current, a_keptFirst, a_keptSecond, a_openIs, a_hasOther, a_tagLoop, a_tagRound, a_tagAround, a_waitNode, a_waitTag, a_waitValue, a_waitInput, a_readyNode, a_readyTag, a_readyA, a_readyB, a_readyInput, a_result, a_resultTime, a_stepsAt⟩ := u
  unfold wpX_repeat
  refine i_open1 (q := 4) I (Or.inr rfl) v1 ?_
  intro r u' hY
  obtain ⟨f_lines, f_opened, f_nodes, f_edges, f_depth, f_tags, f_readyFrom, f_readyTo, f_ranOrder, f_isRun, f_ended, f_stepCount, f_now, a_lineKind, a_lineA, a_lineB, a_lineC, a_lineD, a_openLine, a_start, a_nodeKind, a_nodeNumber, a_firstEdge, a_edgeTo, a_edgeInput, a_nextEdge, a_current, a_keptFirst, a_keptSecond, a_openIs, a_hasOther, a_tagLoop, a_tagRound, a_tagAround, a_waitNode, a_waitTag, a_waitValue, a_waitInput, a_readyNode, a_readyTag, a_readyA, a_readyB, a_readyInput, a_result, a_resultTime, a_stepsAt⟩ := u'
  unfold wpY_repeat
  obtain ⟨f_lines, f_height, f_steps, f_last, f_ending, a_inputs, a_sorts, a_variables, a_numbers, a_firsts, a_seconds, a_pile, a_closes, a_others, a_opens, a_values, a_times, a_counts⟩ := v
  refine hY _ ?_
  intro v' hv'
  obtain ⟨f_lines, f_height, f_steps, f_last, f_ending, a_inputs, a_sorts, a_variables, a_numbers, a_firsts, a_seconds, a_pile, a_closes, a_others, a_opens, a_values, a_times, a_counts⟩ := v'
  exact ⟨rfl, hv'⟩
theorem i_vc_close {k : Nat} {u : SX} {v : SY} (I : i_Rel k u v) (hk : k + 5 ≤ 2560) : wpX_close (fun r u' => wpY_close (fun r' v' => r' = r ∧ i_Rel (k + 5) u' v') v) u := by
  obtain ⟨c, fl, w, hp, hs, hc, hy⟩ := I
  obtain ⟨f_lines, f_opened, f_nodes, f_edges, f_depth, f_tags, f_readyFrom, f_readyTo, f_ranOrder, f_isRun, f_ended, f_stepCount, f_now, a_lineKind, a_lineA, a_lineB, a_lineC, a_lineD, a_openLine, a_start, a_nodeKind, a_nodeNumber, a_firstEdge, a_edgeTo, a_edgeInput, a_nextEdge, a_current, a_keptFirst, a_keptSecond, a_openIs, a_hasOther, a_tagLoop, a_tagRound, a_tagAround, a_waitNode, a_waitTag, a_waitValue, a_waitInput, a_readyNode, a_readyTag, a_readyA, a_readyB, a_readyInput, a_result, a_resultTime, a_stepsAt⟩ := u
  have h20 := w.1
  have hp1 := px_el hp
  have hlen := cf_st_len w _ (Nat.le_refl _)
  unfold wpX_close
  cases e : cf_st c (cf_n c) with
  | nil =>
    refine br_t (by rw [hp1.2.1, e]; rfl) ?_
    unfold wpY_close
    obtain ⟨f_lines, f_height, f_steps, f_last, f_ending, a_inputs, a_sorts, a_variables, a_numbers, a_firsts, a_seconds, a_pile, a_closes, a_others, a_opens, a_values, a_times, a_counts⟩ := v
    refine ys_pair w ?_ (f_lines, f_height, f_steps, f_last, f_ending, a_inputs, a_sorts, a_variables, a_numbers, a_firsts, a_seconds, a_pile, a_closes, a_others, a_opens, a_values, a_times, a_counts) hy
    intro v' hy' hq'
    obtain ⟨f_lines, f_height, f_steps, f_last, f_ending, a_inputs, a_sorts, a_variables, a_numbers, a_firsts, a_seconds, a_pile, a_closes, a_others, a_opens, a_values, a_times, a_counts⟩ := v'
    exact br_t (by rw [(pr_el hq').1, e]; rfl) ⟨rfl, c, fl, w, hp, hs, hc, hy'⟩
  | cons j r =>
    have hl : (cf_st c (cf_n c)).length = r.length + 1 := by rw [e, List.length_cons]
    have h0 : ¬ nI (cf_st c (cf_n c)).length = 0 := nI_ne0 (by omega) (by omega)
    refine br_f (by rw [hp1.2.1]; exact h0) ?_
    by_cases hn : cf_n c = 20
    · refine br_t (by rw [hp1.1, hn]; rfl) ?_
      unfold wpY_close
      obtain ⟨f_lines, f_height, f_steps, f_last, f_ending, a_inputs, a_sorts, a_variables, a_numbers, a_firsts, a_seconds, a_pile, a_closes, a_others, a_opens, a_values, a_times, a_counts⟩ := v
      refine ys_pair w ?_ (f_lines, f_height, f_steps, f_last, f_ending, a_inputs, a_sorts, a_variables, a_numbers, a_firsts, a_seconds, a_pile, a_closes, a_others, a_opens, a_values, a_times, a_counts) hy
      intro v' hy' hq'
      obtain ⟨f_lines, f_height, f_steps, f_last, f_ending, a_inputs, a_sorts, a_variables, a_numbers, a_firsts, a_seconds, a_pile, a_closes, a_others, a_opens, a_values, a_times, a_counts⟩ := v'
      exact br_f (by rw [(pr_el hq').1]; exact h0) (ys_app_f (by rw [(py_el hy').1, hn]) ⟨rfl, c, fl, w, hp, hs, hc, hy'⟩)
    · refine br_f (by rw [hp1.1]; exact fun z => hn ((nI_eq (b := 20) (by omega) (by decide)).mp z)) (nm_r (e' := nI r.length) (by rw [hp1.2.1, hl, nI_pred]) ?_)
      refine xs_add hp1.1 (by omega) ?_
      unfold wpY_close
      obtain ⟨f_lines, f_height, f_steps, f_last, f_ending, a_inputs, a_sorts, a_variables, a_numbers, a_firsts, a_seconds, a_pile, a_closes, a_others, a_opens, a_values, a_times, a_counts⟩ := v
      refine ys_pair w ?_ (f_lines, f_height, f_steps, f_last, f_ending, a_inputs, a_sorts, a_variables, a_numbers, a_firsts, a_seconds, a_pile, a_closes, a_others, a_opens, a_values, a_times, a_counts) hy
      intro v' hy' hq'
      obtain ⟨f_lines, f_height, f_steps, f_last, f_ending, a_inputs, a_sorts, a_variables, a_numbers, a_firsts, a_seconds, a_pile, a_closes, a_others, a_opens, a_values, a_times, a_counts⟩ := v'
      refine br_f (by rw [(pr_el hq').1]; exact h0) (ys_app (py_el hy').1 (by omega) ⟨rfl, ?_⟩)
      obtain ⟨w', hst⟩ := ad_5 (p1 := 0) (p2 := 0) (p3 := 0) (p4 := 0) e w (by omega)
      rw [hp1.2.2.2.2.2.2.2.1]
      rw [e] at hs
      exact rel_add _ w' hp1 hy' hst hs.2
theorem i_vc_otherwise {k : Nat} {u : SX} {v : SY} (I : i_Rel k u v) (hk : k + 5 ≤ 2560) : wpX_otherwise (fun r u' => wpY_otherwise (fun r' v' => r' = r ∧ i_Rel (k + 5) u' v') v) u := by
  obtain ⟨c, fl, w, hp, hs, hc, hy⟩ := I
  obtain ⟨f_lines, f_opened, f_nodes, f_edges, f_depth, f_tags, f_readyFrom, f_readyTo, f_ranOrder, f_isRun, f_ended, f_stepCount, f_now, a_lineKind, a_lineA, a_lineB, a_lineC, a_lineD, a_openLine, a_start, a_nodeKind, a_nodeNumber, a_firstEdge, a_edgeTo, a_edgeInput, a_nextEdge, a_current, a_keptFirst, a_keptSecond, a_openIs, a_hasOther, a_tagLoop, a_tagRound, a_tagAround, a_waitNode, a_waitTag, a_waitValue, a_waitInput, a_readyNode, a_readyTag, a_readyA, a_readyB, a_readyInput, a_result, a_resultTime, a_stepsAt⟩ := u
  have h20 := w.1
  have hp1 := px_el hp
  have hlen := cf_st_len w _ (Nat.le_refl _)
  unfold wpX_otherwise
  cases e : cf_st c (cf_n c) with
  | nil =>
    refine br_t (by rw [hp1.2.1, e]; rfl) ?_
    unfold wpY_otherwise
    obtain ⟨f_lines, f_height, f_steps, f_last, f_ending, a_inputs, a_sorts, a_variables, a_numbers, a_firsts, a_seconds, a_pile, a_closes, a_others, a_opens, a_values, a_times, a_counts⟩ := v
    refine ys_pair w ?_ (f_lines, f_height, f_steps, f_last, f_ending, a_inputs, a_sorts, a_variables, a_numbers, a_firsts, a_seconds, a_pile, a_closes, a_others, a_opens, a_values, a_times, a_counts) hy
    intro v' hy' hq'
    obtain ⟨f_lines, f_height, f_steps, f_last, f_ending, a_inputs, a_sorts, a_variables, a_numbers, a_firsts, a_seconds, a_pile, a_closes, a_others, a_opens, a_values, a_times, a_counts⟩ := v'
    exact br_t (by rw [(pr_el hq').1, e]; rfl) ⟨rfl, c, fl, w, hp, hs, hc, hy'⟩
  | cons j r =>
    have hl : (cf_st c (cf_n c)).length = r.length + 1 := by rw [e, List.length_cons]
    have h0 : ¬ nI (cf_st c (cf_n c)).length = 0 := nI_ne0 (by omega) (by omega)
    obtain ⟨er, hjn, hjk⟩ := cf_sth e
    have hs0 := hs
    rw [e] at hs0
    have eo : f_opened - 1 = nI r.length := by rw [hp1.2.1, hl, nI_pred]
    have eoi : vp_in (f_opened - 1) 5 := by rw [eo]; exact vp_in_nI (by omega) (by decide)
    have el : a_openLine (f_opened - 1).toNatClampNeg = nI j := by rw [eo, nI_clamp (by omega), hp1.2.2.2.2.2.2.2.1]; exact hs0.1
    have ek : a_lineKind (nI j).toNatClampNeg = nI (cf_kd c j) := by rw [nI_clamp (by omega), hp1.2.2.1]; exact (w.2 j hjn).1
    have hji : vp_in (nI j) 20 := vp_in_nI (by omega) (by decide)
    have hYp : ∀ {post2 : Int32 → SY → Prop}, (∀ v', py_I c v' → (match v' with | (f_lines, f_height, f_steps, f_last, f_ending, a_inputs, a_sorts, a_variables, a_numbers, a_firsts, a_seconds, a_pile, a_closes, a_others, a_opens, a_values, a_times, a_counts) => ((nI (cf_kd c j) = 2 → ((op_v (cf_oth c (cf_n c) j) < 0 → wpY_append (fun r u => match u with | (f_lines, f_height, f_steps, f_last, f_ending, a_inputs, a_sorts, a_variables, a_numbers, a_firsts, a_seconds, a_pile, a_closes, a_others, a_opens, a_values, a_times, a_counts) => post2 r (f_lines, f_height, f_steps, f_last, f_ending, a_inputs, a_sorts, a_variables, a_numbers, a_firsts, a_seconds, a_pile, a_closes, a_others, a_opens, a_values, a_times, a_counts)) (f_lines, f_height, f_steps, f_last, f_ending, a_inputs, a_sorts, a_variables, a_numbers, a_firsts, a_seconds, a_pile, a_closes, a_others, a_opens, a_values, a_times, a_counts) 3 0 0 0 0) ∧ (¬ op_v (cf_oth c (cf_n c) j) < 0 → post2 (-1000000003) (f_lines, f_height, f_steps, f_last, f_ending, a_inputs, a_sorts, a_variables, a_numbers, a_firsts, a_seconds, a_pile, a_closes, a_others, a_opens, a_values, a_times, a_counts)))) ∧ (¬ nI (cf_kd c j) = 2 → post2 (-1000000003) (f_lines, f_height, f_steps, f_last, f_ending, a_inputs, a_sorts, a_variables, a_numbers, a_firsts, a_seconds, a_pile, a_closes, a_others, a_opens, a_values, a_times, a_counts))))) → wpY_otherwise post2 v := by
      intro post2 hv
      unfold wpY_otherwise
      obtain ⟨f_lines, f_height, f_steps, f_last, f_ending, a_inputs, a_sorts, a_variables, a_numbers, a_firsts, a_seconds, a_pile, a_closes, a_others, a_opens, a_values, a_times, a_counts⟩ := v
      refine ys_pair w ?_ (f_lines, f_height, f_steps, f_last, f_ending, a_inputs, a_sorts, a_variables, a_numbers, a_firsts, a_seconds, a_pile, a_closes, a_others, a_opens, a_values, a_times, a_counts) hy
      intro v' h1 h2
      have hv := hv v' h1
      obtain ⟨f_lines, f_height, f_steps, f_last, f_ending, a_inputs, a_sorts, a_variables, a_numbers, a_firsts, a_seconds, a_pile, a_closes, a_others, a_opens, a_values, a_times, a_counts⟩ := v'
      obtain ⟨t1, t2, t3, t4⟩ := pr_el h2
      rw [e] at t2
      have fo : f_height - 1 = nI r.length := by rw [t1, hl, nI_pred]
      have foi : vp_in (f_height - 1) 20 := by rw [fo]; exact vp_in_nI (by omega) (by decide)
      have fp : a_pile (f_height - 1).toNatClampNeg = nI j := by rw [fo, nI_clamp (by omega)]; exact t2.1
      have fk : a_sorts (nI j).toNatClampNeg = nI (cf_kd c j) := by rw [nI_clamp (by omega), (py_el h1).2.2.1]; exact (w.2 j hjn).1
      have ft : a_others (nI j).toNatClampNeg = op_v (cf_oth c (cf_n c) j) := by rw [nI_clamp (by omega)]; exact (t3 j hjn).2
      refine br_f (by rw [t1]; exact h0) (And.intro foi ?_)
      rw [fp]
      refine And.intro hji ?_
      rw [fk, ft]
      exact br_c (fun z => And.intro foi (And.intro hji (hv.1 z))) (fun z => hv.2 z)
    refine br_f (by rw [hp1.2.1]; exact h0) (And.intro eoi ?_)
    rw [el]
    refine And.intro hji ?_
    rw [ek]
    refine br_c (fun z => ?_) (fun z => ?_)
    · have hk2 : cf_kd c j = 2 := by
        rcases hjk with y | y
        · exact y
        · rw [y] at z; exact absurd z (by decide)
      unfold wpX_isSaid
      refine And.intro eoi (nm_r (e' := nI (j + 1)) (by rw [el]; exact nI_1 j) ⟨cf_n c - (j + 1) + 1, ?_⟩)
      have ho1 : cf_oth c (j + 1) j = none := cf_oth_0 (Nat.le_refl _)
      have hsd := fun (post : Int32 → Prop) (H : post (if cf_oth c (cf_n c) j = none then 0 else 1)) => xs_said (c := c) w hp e H (cf_n c - (j + 1)) (j + 1) (by omega) (by omega) (cf_n c - (j + 1) + 1) (by omega) 0 (by rw [cf_st_c hjk, List.length_cons]; omega)
      rw [ho1, if_pos rfl] at hsd
      refine hsd _ ?_
      by_cases hoo : cf_oth c (cf_n c) j = none
      · rw [if_pos hoo]
        refine br_t rfl ?_
        by_cases hn : cf_n c = 20
        · refine br_t (by rw [hp1.1, hn]; rfl) (hYp ?_)
          intro v' hy'
          obtain ⟨f_lines, f_height, f_steps, f_last, f_ending, a_inputs, a_sorts, a_variables, a_numbers, a_firsts, a_seconds, a_pile, a_closes, a_others, a_opens, a_values, a_times, a_counts⟩ := v'
          rw [hoo]
          exact br_t z (br_t (by decide) (ys_app_f (by rw [(py_el hy').1, hn]) ⟨rfl, c, fl, w, hp, hs, hc, hy'⟩))
        · refine br_f (by rw [hp1.1]; exact fun z => hn ((nI_eq (b := 20) (by omega) (by decide)).mp z)) ?_
          refine xs_add hp1.1 (by omega) (hYp ?_)
          intro v' hy'
          obtain ⟨f_lines, f_height, f_steps, f_last, f_ending, a_inputs, a_sorts, a_variables, a_numbers, a_firsts, a_seconds, a_pile, a_closes, a_others, a_opens, a_values, a_times, a_counts⟩ := v'
          rw [hoo]
          refine br_t z (br_t (by decide) (ys_app (py_el hy').1 (by omega) ⟨rfl, ?_⟩))
          obtain ⟨w', hst⟩ := ad_3 (p1 := 0) (p2 := 0) (p3 := 0) (p4 := 0) e hk2 hoo w (by omega)
          rw [hp1.2.1, hp1.2.2.2.2.2.2.2.1]
          exact rel_add _ w' hp1 hy' hst hs
      · rw [if_neg hoo]
        refine br_f (by decide) (hYp ?_)
        intro v' hy'
        obtain ⟨f_lines, f_height, f_steps, f_last, f_ending, a_inputs, a_sorts, a_variables, a_numbers, a_firsts, a_seconds, a_pile, a_closes, a_others, a_opens, a_values, a_times, a_counts⟩ := v'
        cases ho2 : cf_oth c (cf_n c) j with
        | none => exact absurd ho2 hoo
        | some m =>
          have hm := (cf_oth_s _ _ _ ho2).1
          exact br_t z (br_f (nI_pos (by omega)) ⟨rfl, c, fl, w, hp, hs, hc, hy'⟩)
    · refine hYp ?_
      intro v' hy'
      obtain ⟨f_lines, f_height, f_steps, f_last, f_ending, a_inputs, a_sorts, a_variables, a_numbers, a_firsts, a_seconds, a_pile, a_closes, a_others, a_opens, a_values, a_times, a_counts⟩ := v'
      exact br_f z ⟨rfl, c, fl, w, hp, hs, hc, hy'⟩
theorem xs_findOpen {c : CF} (w : cf_wf c) {post : SX → Prop} (H : ∀ fl', sk_a fl' (cf_st c (cf_n c)) → post (f_lines, nI (cf_st c (cf_n c)).length, f_nodes, f_edges, f_depth, f_tags, f_readyFrom, f_readyTo, f_ranOrder, f_isRun, f_ended, f_stepCount, f_now, a_lineKind, a_lineA, a_lineB, a_lineC, a_lineD, fl', a_start, a_nodeKind, a_nodeNumber, a_firstEdge, a_edgeTo, a_edgeInput, a_nextEdge, a_current, a_keptFirst, a_keptSecond, a_openIs, a_hasOther, a_tagLoop, a_tagRound, a_tagAround, a_waitNode, a_waitTag, a_waitValue, a_waitInput, a_readyNode, a_readyTag, a_readyA, a_readyB, a_readyInput, a_result, a_resultTime, a_stepsAt)) (hl0 : f_lines = nI (cf_n c)) (hk0 : a_lineKind = c.2.1) : wpX_findOpen post (f_lines, f_opened, f_nodes, f_edges, f_depth, f_tags, f_readyFrom, f_readyTo, f_ranOrder, f_isRun, f_ended, f_stepCount, f_now, a_lineKind, a_lineA, a_lineB, a_lineC, a_lineD, a_openLine, a_start, a_nodeKind, a_nodeNumber, a_firstEdge, a_edgeTo, a_edgeInput, a_nextEdge, a_current, a_keptFirst, a_keptSecond, a_openIs, a_hasOther, a_tagLoop, a_tagRound, a_tagAround, a_waitNode, a_waitTag, a_waitValue, a_waitInput, a_readyNode, a_readyTag, a_readyA, a_readyB, a_readyInput, a_result, a_resultTime, a_stepsAt) :=
  ⟨cf_n c + 1, xs_fo (c := c) (post := post) w H hl0 hk0 (cf_n c) 0 (Nat.zero_add _) (cf_n c + 1) (by omega) a_openLine trivial⟩
theorem i_vc_undo {k : Nat} {u : SX} {v : SY} (I : i_Rel k u v) (hk : k + 5 ≤ 2560) : wpX_undo (fun r u' => wpY_undo (fun r' v' => r' = r ∧ i_Rel (k + 5) u' v') v) u := by
  obtain ⟨c, fl, w, hp, hs, hc, hy⟩ := I
  obtain ⟨f_lines, f_opened, f_nodes, f_edges, f_depth, f_tags, f_readyFrom, f_readyTo, f_ranOrder, f_isRun, f_ended, f_stepCount, f_now, a_lineKind, a_lineA, a_lineB, a_lineC, a_lineD, a_openLine, a_start, a_nodeKind, a_nodeNumber, a_firstEdge, a_edgeTo, a_edgeInput, a_nextEdge, a_current, a_keptFirst, a_keptSecond, a_openIs, a_hasOther, a_tagLoop, a_tagRound, a_tagAround, a_waitNode, a_waitTag, a_waitValue, a_waitInput, a_readyNode, a_readyTag, a_readyA, a_readyB, a_readyInput, a_result, a_resultTime, a_stepsAt⟩ := u
  have h20 := w.1
  have hp1 := px_el hp
  unfold wpX_undo
  by_cases hn : cf_n c = 0
  · refine br_t (by rw [hp1.1, hn]; rfl) ?_
    unfold wpY_undo
    obtain ⟨f_lines, f_height, f_steps, f_last, f_ending, a_inputs, a_sorts, a_variables, a_numbers, a_firsts, a_seconds, a_pile, a_closes, a_others, a_opens, a_values, a_times, a_counts⟩ := v
    exact br_t (by rw [(py_el hy).1, hn]; rfl) ⟨rfl, c, fl, w, hp, hs, hc, hy⟩
  · obtain ⟨n', hn'⟩ : ∃ n', cf_n c = n' + 1 := ⟨cf_n c - 1, by omega⟩
    have h0 : ¬ nI (cf_n c) = 0 := nI_ne0 (by omega) (by omega)
    have em : nI (cf_n c) - 1 = nI n' := by rw [hn', nI_pred]
    refine br_f (by rw [hp1.1]; exact h0) (nm_r (e' := nI n') (by rw [hp1.1]; exact em) ?_)
    obtain ⟨q1, q2, q3, q4, q5, q6, q7, q8, q9⟩ := hp1
    have w' : cf_wf (cf_wn c n' c.2.2.2.2.2.2) := wn_wf w (by omega)
    refine xs_findOpen (c := cf_wn c n' c.2.2.2.2.2.2) w' ?_ rfl q3
    intro fl' hs'
    unfold wpY_undo
    obtain ⟨f_lines, f_height, f_steps, f_last, f_ending, a_inputs, a_sorts, a_variables, a_numbers, a_firsts, a_seconds, a_pile, a_closes, a_others, a_opens, a_values, a_times, a_counts⟩ := v
    obtain ⟨y1, y2, y3, y4, y5, y6, y7⟩ := py_el hy
    refine br_f (by rw [y1]; exact h0) (nm_r (e' := nI n') (by rw [y1]; exact em) ⟨rfl, cf_wn c n' c.2.2.2.2.2.2, fl', w', px_mk ⟨rfl, rfl, q3, q4, q5, q6, q7, rfl, q9⟩, hs', Or.inl rfl, py_mk ⟨rfl, y2, y3, y4, y5, y6, y7⟩⟩)
theorem i_vc_clear {k : Nat} {u : SX} {v : SY} (I : i_Rel k u v) (hk : k + 5 ≤ 2560) : wpX_clear (fun u' => wpY_clear (fun v' => i_Rel (k + 5) u' v') v) u := by
  obtain ⟨c, fl, w, hp, hs, hc, hy⟩ := I
  obtain ⟨f_lines, f_opened, f_nodes, f_edges, f_depth, f_tags, f_readyFrom, f_readyTo, f_ranOrder, f_isRun, f_ended, f_stepCount, f_now, a_lineKind, a_lineA, a_lineB, a_lineC, a_lineD, a_openLine, a_start, a_nodeKind, a_nodeNumber, a_firstEdge, a_edgeTo, a_edgeInput, a_nextEdge, a_current, a_keptFirst, a_keptSecond, a_openIs, a_hasOther, a_tagLoop, a_tagRound, a_tagAround, a_waitNode, a_waitTag, a_waitValue, a_waitInput, a_readyNode, a_readyTag, a_readyA, a_readyB, a_readyInput, a_result, a_resultTime, a_stepsAt⟩ := u
  obtain ⟨f_lines, f_height, f_steps, f_last, f_ending, a_inputs, a_sorts, a_variables, a_numbers, a_firsts, a_seconds, a_pile, a_closes, a_others, a_opens, a_values, a_times, a_counts⟩ := v
  obtain ⟨q1, q2, q3, q4, q5, q6, q7, q8, q9⟩ := px_el hp
  obtain ⟨y1, y2, y3, y4, y5, y6, y7⟩ := py_el hy
  exact ⟨cf_wn c 0 c.2.2.2.2.2.2, a_openLine, wn_wf w (Nat.zero_le _), px_mk ⟨rfl, rfl, q3, q4, q5, q6, q7, rfl, q9⟩, trivial, Or.inl rfl, py_mk ⟨rfl, y2, y3, y4, y5, y6, y7⟩⟩
end
end
